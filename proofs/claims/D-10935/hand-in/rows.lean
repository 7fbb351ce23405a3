section
/-- what one terminal holds: state, question, count, two numbers, row, column, waits, pen, insert -/
abbrev tq_R : Type := Int32 × Int32 × Int32 × Int32 × Int32 × Int32 × Int32 × Int32 × Int32 × Int32
def tq_O (t : Nat) (u : St2) : tq_R := match u with
  | (f0, f1, f2, a1, a2, a3, a4, a5, a6, a7, a8, a9, a10, a11, a12, a13, a14, a15, a16, a17, a18, a19, a20, a21, a22, a23, a24) => (a20 t, a21 t, a22 t, a23 (4 * t), a23 (4 * t + 1), a4 t, a5 t, a6 t, a7 t, a10 t)
/-- the cells: both terminals show their first screen, the slots stand in order, S the signs, Y the styles -/
def tq_C (S Y : Nat → Int32) (u : St2) : Prop := match u with
  | (f0, f1, f2, a1, a2, a3, a4, a5, a6, a7, a8, a9, a10, a11, a12, a13, a14, a15, a16, a17, a18, a19, a20, a21, a22, a23, a24) => a12 0 = 0 ∧ a12 1 = 0 ∧ (∀ r, r < 6 → a3 r = nI r) ∧ (∀ r, r < 6 → a3 (12 + r) = nI r) ∧ (∀ j, j < 288 → a1 j = S j) ∧ (∀ j, j < 288 → a2 j = Y j)
def tq_K (t s : Nat) (p o : tq_R) (S Y : Nat → Int32) (u : St2) : Prop := tq_O t u = p ∧ tq_O s u = o ∧ tq_C S Y u
def tq_ts (t s : Nat) : Prop := (t = 0 ∧ s = 1) ∨ (t = 1 ∧ s = 0)
/-- terminal t reads b in u: the state behind it is one of A -/
def tq_Rd (t : Nat) (b : Int32) (u : St2) (A : St2 → Prop) : Prop := ∀ post : St2 → Prop, (∀ u', A u' → post u') → wpX_read post u (nI t) b
theorem tq_inj {t : Nat} {st qu cn n0 n1 ro co wa pe ins : Int32} {f0 f1 f2 : Int32} {a1 a2 a3 a4 a5 a6 a7 a8 a9 a10 a11 a12 a13 a14 a15 a16 a17 a18 a19 a20 a21 a22 a23 a24 : Nat → Int32} (h : tq_O t (f0, f1, f2, a1, a2, a3, a4, a5, a6, a7, a8, a9, a10, a11, a12, a13, a14, a15, a16, a17, a18, a19, a20, a21, a22, a23, a24) = (st, qu, cn, n0, n1, ro, co, wa, pe, ins)) : a20 t = st ∧ a21 t = qu ∧ a22 t = cn ∧ a23 (4 * t) = n0 ∧ a23 (4 * t + 1) = n1 ∧ a4 t = ro ∧ a5 t = co ∧ a6 t = wa ∧ a7 t = pe ∧ a10 t = ins := by
  unfold tq_O at h
  simp only [Prod.mk.injEq] at h
  exact h
theorem tq_mk {t : Nat} {st qu cn n0 n1 ro co wa pe ins : Int32} {f0 f1 f2 : Int32} {a1 a2 a3 a4 a5 a6 a7 a8 a9 a10 a11 a12 a13 a14 a15 a16 a17 a18 a19 a20 a21 a22 a23 a24 : Nat → Int32} (h : a20 t = st ∧ a21 t = qu ∧ a22 t = cn ∧ a23 (4 * t) = n0 ∧ a23 (4 * t + 1) = n1 ∧ a4 t = ro ∧ a5 t = co ∧ a6 t = wa ∧ a7 t = pe ∧ a10 t = ins) : tq_O t (f0, f1, f2, a1, a2, a3, a4, a5, a6, a7, a8, a9, a10, a11, a12, a13, a14, a15, a16, a17, a18, a19, a20, a21, a22, a23, a24) = (st, qu, cn, n0, n1, ro, co, wa, pe, ins) := by
  unfold tq_O
  simp only [Prod.mk.injEq]
  exact h
theorem tq_b8 : ∀ n, n < 128 → (nI n).toInt8.toInt32 = nI n := by decide +kernel
theorem tq_ar {a b : Nat} {x : Int32} (hx : x = nI a) (h : a = b) : x = nI b := h ▸ hx
/-! meanings and next states -/
theorem tq_mn3 {post : Int32 → Prop} {u : St2} {x : Int32} (h : post 3) : wpX_meaning post u x 27 := by
  obtain ⟨f0, f1, f2, a1, a2, a3, a4, a5, a6, a7, a8, a9, a10, a11, a12, a13, a14, a15, a16, a17, a18, a19, a20, a21, a22, a23, a24⟩ := u
  exact br_t rfl h
theorem tq_mn4 {post : Int32 → Prop} {u : St2} (h : post 4) : wpX_meaning post u 1 91 := by
  obtain ⟨f0, f1, f2, a1, a2, a3, a4, a5, a6, a7, a8, a9, a10, a11, a12, a13, a14, a15, a16, a17, a18, a19, a20, a21, a22, a23, a24⟩ := u
  exact br_f (by decide) (br_f (by decide) (br_t rfl (br_t rfl h)))
theorem tq_mn7 {post : Int32 → Prop} {u : St2} {x : Int32} {d : Nat} (hd : d < 10) (h0 : ¬ x = 0) (h1 : ¬ x = 1) (h : post 7) : wpX_meaning post u x (nI (48 + d)) := by
  obtain ⟨f0, f1, f2, a1, a2, a3, a4, a5, a6, a7, a8, a9, a10, a11, a12, a13, a14, a15, a16, a17, a18, a19, a20, a21, a22, a23, a24⟩ := u
  exact pk_eq (48 + d) 27 (fun z => absurd z (by omega)) (fun _ => br_f h0 (br_f h1 (pk_lt (48 + d) 48 (fun z => absurd z (by omega)) (fun _ => pk_lt 57 (48 + d) (fun z => absurd z (by omega)) (fun _ => h)))))
theorem tq_mn1 {post : Int32 → Prop} {u : St2} {b : Nat} (h1 : 32 ≤ b) (h2 : b < 127) (h : post 1) : wpX_meaning post u 0 (nI b) := by
  obtain ⟨f0, f1, f2, a1, a2, a3, a4, a5, a6, a7, a8, a9, a10, a11, a12, a13, a14, a15, a16, a17, a18, a19, a20, a21, a22, a23, a24⟩ := u
  exact pk_eq b 27 (fun z => absurd z (by omega)) (fun _ => br_t rfl (pk_lt b 32 (fun z => absurd z (by omega)) (fun _ => pk_le 127 b (fun z => absurd z (by omega)) (fun _ => h))))
theorem tq_mn8 {post : Int32 → Prop} {u : St2} (h : post 8) : wpX_meaning post u 3 59 := by
  obtain ⟨f0, f1, f2, a1, a2, a3, a4, a5, a6, a7, a8, a9, a10, a11, a12, a13, a14, a15, a16, a17, a18, a19, a20, a21, a22, a23, a24⟩ := u
  refine br_f (by decide) (br_f (by decide) (br_f (by decide) (br_f (by decide) (br_t (by decide) ?_))))
  exact br_t rfl h
theorem tq_mn9 {post : Int32 → Prop} {u : St2} {b : Nat} (h1 : 64 ≤ b) (h2 : b < 127) (h : post 9) : wpX_meaning post u 3 (nI b) := by
  obtain ⟨f0, f1, f2, a1, a2, a3, a4, a5, a6, a7, a8, a9, a10, a11, a12, a13, a14, a15, a16, a17, a18, a19, a20, a21, a22, a23, a24⟩ := u
  refine pk_eq b 27 (fun z => absurd z (by omega)) (fun _ => br_f (by decide) (br_f (by decide) (pk_lt b 48 (fun z => absurd z (by omega)) (fun _ => pk_lt 57 b (fun _ => ?_) (fun z => absurd z (by omega))))))
  exact pk_eq b 59 (fun z => absurd z (by omega)) (fun _ => pk_lt b 64 (fun z => absurd z (by omega)) (fun _ => pk_le 127 b (fun z => absurd z (by omega)) (fun _ => h)))
theorem tq_mn2 {post : Int32 → Prop} {u : St2} (h : post 2) : wpX_meaning post u 0 13 := by
  obtain ⟨f0, f1, f2, a1, a2, a3, a4, a5, a6, a7, a8, a9, a10, a11, a12, a13, a14, a15, a16, a17, a18, a19, a20, a21, a22, a23, a24⟩ := u
  refine br_f (by decide) (br_t rfl (br_t (by decide) ?_))
  exact br_f (by decide) (br_f (by decide) h)
theorem tq_ns3 {post : Int32 → Prop} (h : post 1) : wpX_nextState post () 3 := br_t rfl h
theorem tq_ns4 {post : Int32 → Prop} (h : post 2) : wpX_nextState post () 4 := br_f (by decide) (br_t rfl h)
theorem tq_ns7 {post : Int32 → Prop} (h : post 3) : wpX_nextState post () 7 := br_f (by decide) (br_f (by decide) (br_f (by decide) (br_f (by decide) h)))
theorem tq_ns8 {post : Int32 → Prop} (h : post 3) : wpX_nextState post () 8 := br_f (by decide) (br_f (by decide) (br_f (by decide) (br_f (by decide) h)))
theorem tq_ns1 {post : Int32 → Prop} (h : post 0) : wpX_nextState post () 1 := br_f (by decide) (br_f (by decide) (br_t (by decide) h))
theorem tq_ns2 {post : Int32 → Prop} (h : post 0) : wpX_nextState post () 2 := br_f (by decide) (br_f (by decide) (br_t (by decide) h))
theorem tq_ns9 {post : Int32 → Prop} (h : post 0) : wpX_nextState post () 9 := br_f (by decide) (br_f (by decide) (br_f (by decide) (br_t (by decide) h)))
theorem tq_lesser {post : Int32 → Prop} {a b : Nat} (ha : a < 2 ^ 31) (hb : b < 2 ^ 31) (h : post (nI (min a b))) : wpX_lesser post () (nI a) (nI b) :=
  pk_le b a (fun z => by rw [Nat.min_eq_right z] at h; exact h) (fun z => by rw [Nat.min_eq_left (Nat.le_of_lt z)] at h; exact h)
/-! lines and cells -/
theorem tq_la {post : Int32 → Prop} {t r : Nat} {S Y : Nat → Int32} {f1 f2 : Int32} {a1 a2 a3 a4 a5 a6 a7 a8 a9 a10 a11 a12 a13 a14 a15 a16 a17 a18 a19 a20 a21 a22 a23 a24 : Nat → Int32} (ht : t = 0 ∨ t = 1) (C : tq_C S Y (nI t, f1, f2, a1, a2, a3, a4, a5, a6, a7, a8, a9, a10, a11, a12, a13, a14, a15, a16, a17, a18, a19, a20, a21, a22, a23, a24)) (hr : r < 6) (h : post (nI (144 * t + 12 * r))) : wpX_lineAt post (nI t, f1, f2, a1, a2, a3, a4, a5, a6, a7, a8, a9, a10, a11, a12, a13, a14, a15, a16, a17, a18, a19, a20, a21, a22, a23, a24) (nI r) := by
  obtain ⟨c0, c1, s0, s1, _, _⟩ := C
  unfold wpX_lineAt wpX_screen
  dsimp only
  rcases ht with rfl | rfl
  · refine ⟨(vp_in_iff.mpr (by decide)), ?_⟩
    have i1 : (nI 0 * 2 + a12 (nI 0).toNatClampNeg) * 6 + nI r = nI r := by
      rw [show a12 (nI 0).toNatClampNeg = 0 from c0, show (nI 0 * 2 + 0) * 6 = nI 0 from by decide, nI_add, Nat.zero_add]
    rw [i1, nI_clamp (show r < 2 ^ 31 by omega), s0 r hr]
    refine ⟨pk_in r 24 (by omega), ?_⟩
    rw [show nI 0 * 12 = nI 0 from by decide, nI_add, show (12 : Int32) = nI 12 from rfl, pk_mul]
    rw [show 144 * 0 + 12 * r = (0 + r) * 12 by omega] at h
    exact h
  · refine ⟨(vp_in_iff.mpr (by decide)), ?_⟩
    have i1 : (nI 1 * 2 + a12 (nI 1).toNatClampNeg) * 6 + nI r = nI (12 + r) := by
      rw [show a12 (nI 1).toNatClampNeg = 0 from c1, show (nI 1 * 2 + 0) * 6 = nI 12 from by decide, nI_add]
    rw [i1, nI_clamp (show 12 + r < 2 ^ 31 by omega), s1 r hr]
    refine ⟨pk_in (12 + r) 24 (by omega), ?_⟩
    rw [show nI 1 * 12 = nI 12 from by decide, nI_add, show (12 : Int32) = nI 12 from rfl, pk_mul]
    rw [show 144 * 1 + 12 * r = (12 + r) * 12 by omega] at h
    exact h
theorem tq_lo0 {post : Int32 → Prop} {r : Nat} {S Y : Nat → Int32} {u : St2} (C : tq_C S Y u) (hr : r < 6) (h : post (nI (12 * r))) : wpX_lineOf post u 0 (nI r) := by
  obtain ⟨f0, f1, f2, a1, a2, a3, a4, a5, a6, a7, a8, a9, a10, a11, a12, a13, a14, a15, a16, a17, a18, a19, a20, a21, a22, a23, a24⟩ := u
  obtain ⟨c0, c1, s0, s1, _, _⟩ := C
  unfold wpX_lineOf
  dsimp only
  refine ⟨(vp_in_iff.mpr (by decide)), nm_r (e' := nI 0) (by rw [show a12 (0 : Int32).toNatClampNeg = 0 from c0]; decide) ?_⟩
  have i1 : nI 0 * 6 + nI r = nI r := by
    rw [show nI 0 * 6 = nI 0 from by decide, nI_add, Nat.zero_add]
  rw [i1, nI_clamp (show r < 2 ^ 31 by omega), s0 r hr]
  refine ⟨pk_in r 24 (by omega), ?_⟩
  rw [show (0 : Int32) * 12 = nI 0 from by decide, nI_add, show (12 : Int32) = nI 12 from rfl, pk_mul]
  rw [show 12 * r = (0 + r) * 12 by omega] at h
  exact h
theorem tq_lo1 {post : Int32 → Prop} {r : Nat} {S Y : Nat → Int32} {u : St2} (C : tq_C S Y u) (hr : r < 6) (h : post (nI (144 + 12 * r))) : wpX_lineOf post u 1 (nI r) := by
  obtain ⟨f0, f1, f2, a1, a2, a3, a4, a5, a6, a7, a8, a9, a10, a11, a12, a13, a14, a15, a16, a17, a18, a19, a20, a21, a22, a23, a24⟩ := u
  obtain ⟨c0, c1, s0, s1, _, _⟩ := C
  unfold wpX_lineOf
  dsimp only
  refine ⟨(vp_in_iff.mpr (by decide)), nm_r (e' := nI 2) (by rw [show a12 (1 : Int32).toNatClampNeg = 0 from c1]; decide) ?_⟩
  have i1 : nI 2 * 6 + nI r = nI (12 + r) := by
    rw [show nI 2 * 6 = nI 12 from by decide, nI_add]
  rw [i1, nI_clamp (show 12 + r < 2 ^ 31 by omega), s1 r hr]
  refine ⟨pk_in (12 + r) 24 (by omega), ?_⟩
  rw [show (1 : Int32) * 12 = nI 12 from by decide, nI_add, show (12 : Int32) = nI 12 from rfl, pk_mul]
  rw [show 144 + 12 * r = (12 + r) * 12 by omega] at h
  exact h
theorem tq_sc {post : Int32 → Prop} {i j : Nat} {x y : Int32} {S Y : Nat → Int32} {u : St2} (C : tq_C S Y u) (hi : i < 288) (hj : j < 288) (hx : x = nI i) (hy : y = nI j) (h1 : S i = S j ∧ Y i = Y j → post 1) (h0 : ¬ (S i = S j ∧ Y i = Y j) → post 0) : wpX_sameCells post u x y := by
  obtain ⟨f0, f1, f2, a1, a2, a3, a4, a5, a6, a7, a8, a9, a10, a11, a12, a13, a14, a15, a16, a17, a18, a19, a20, a21, a22, a23, a24⟩ := u
  obtain ⟨_, _, _, _, s, y⟩ := C
  subst hx hy
  unfold wpX_sameCells
  dsimp only
  rw [nI_clamp (show i < 2 ^ 31 by omega), nI_clamp (show j < 2 ^ 31 by omega), s i hi, s j hj, y i hi, y j hj]
  have vi : vp_in (nI i) 288 := vp_in_nI hi (by decide)
  have vj : vp_in (nI j) 288 := vp_in_nI hj (by decide)
  exact ⟨vi, vj, fun e => ⟨vi, vj, fun e2 => h1 ⟨e, e2⟩, fun e2 => h0 (fun z => e2 z.2)⟩, fun e => h0 (fun z => e z.1)⟩
theorem tq_ie {post : Int32 → Prop} {i : Nat} {x : Int32} {S Y : Nat → Int32} {u : St2} (C : tq_C S Y u) (hi : i < 288) (hx : x = nI i) (h1 : S i = 32 ∧ Y i = 0 → post 1) (h0 : ¬ (S i = 32 ∧ Y i = 0) → post 0) : wpX_isEmpty post u x := by
  obtain ⟨f0, f1, f2, a1, a2, a3, a4, a5, a6, a7, a8, a9, a10, a11, a12, a13, a14, a15, a16, a17, a18, a19, a20, a21, a22, a23, a24⟩ := u
  obtain ⟨_, _, _, _, s, y⟩ := C
  subst hx
  unfold wpX_isEmpty
  dsimp only
  rw [nI_clamp (show i < 2 ^ 31 by omega), s i hi, y i hi]
  have vi : vp_in (nI i) 288 := vp_in_nI hi (by decide)
  exact ⟨vi, fun e => ⟨vi, fun e2 => h1 ⟨e, e2⟩, fun e2 => h0 (fun z => e2 z.2)⟩, fun e => h0 (fun z => e z.1)⟩
end
section
theorem tq_num {post : Int32 → Prop} {t i : Nat} {x : Int32} {f1 f2 : Int32} {a1 a2 a3 a4 a5 a6 a7 a8 a9 a10 a11 a12 a13 a14 a15 a16 a17 a18 a19 a20 a21 a22 a23 a24 : Nat → Int32} (ht : t < 2) (hi : i < 4) (hc : ¬ a22 t ≤ nI i) (hv : a23 (4 * t + i) = x) (h : post x) : wpX_number post (nI t, f1, f2, a1, a2, a3, a4, a5, a6, a7, a8, a9, a10, a11, a12, a13, a14, a15, a16, a17, a18, a19, a20, a21, a22, a23, a24) (nI i) := by
  unfold wpX_number
  dsimp only
  have i1 : nI t * 4 + nI i = nI (4 * t + i) := by rw [show (4 : Int32) = nI 4 from rfl, pk_mul, nI_add, Nat.mul_comm]
  rw [i1, nI_clamp (show t < 2 ^ 31 by omega), nI_clamp (show 4 * t + i < 2 ^ 31 by omega), hv]
  exact ⟨pk_in t 2 ht, br_f hc ⟨pk_in (4 * t + i) 8 (by omega), h⟩⟩
theorem tq_d0 (d : Nat) : 10 * (0 : Int32) + (nI (48 + d) - 48) = nI d := by
  rw [show (48 : Int32) = nI 48 from rfl, pk_sub (by omega), show 10 * (0 : Int32) = nI 0 from by decide, nI_add]
  exact congrArg nI (by omega)
theorem tq_esc {t s : Nat} {st qu cn n0 n1 ro co wa pe ins : Int32} {o : tq_R} {S Y : Nat → Int32} {u : St2} (hts : tq_ts t s) (h : tq_K t s (st, qu, cn, n0, n1, ro, co, wa, pe, ins) o S Y u) : tq_Rd t 27 u (tq_K t s (1, qu, cn, n0, n1, ro, co, wa, pe, ins) o S Y) := by
  intro post hp
  obtain ⟨f0, f1, f2, a1, a2, a3, a4, a5, a6, a7, a8, a9, a10, a11, a12, a13, a14, a15, a16, a17, a18, a19, a20, a21, a22, a23, a24⟩ := u
  obtain ⟨h1, h2, h3⟩ := h
  obtain ⟨e20, e21, e22, e23, e23', e4, e5, e6, e7, e10⟩ := tq_inj h1
  have ht : t = 0 ∨ t = 1 := by rcases hts with ⟨rfl, rfl⟩ | ⟨rfl, rfl⟩ <;> simp
  have ht2 : t < 2 := by omega
  unfold wpX_read
  dsimp only
  rcases hts with ⟨rfl, rfl⟩ | ⟨rfl, rfl⟩
  all_goals
    refine ⟨(vp_in_iff.mpr (by decide)), nm_e (tq_mn3 (tq_ns3 ?_))⟩
    refine ⟨(vp_in_iff.mpr (by decide)), nm_e (br_f (by decide) (br_f (by decide) (br_f (by decide) (br_f (by decide) (br_f (by decide) (br_f (by decide) (br_f (by decide) (br_f (by decide) ?_))))))))⟩
    exact hp _ ⟨tq_mk ⟨rfl, e21, e22, e23, e23', e4, e5, e6, e7, e10⟩, h2, h3⟩
theorem tq_lb {t s : Nat} {qu cn n0 n1 ro co wa pe ins : Int32} {o : tq_R} {S Y : Nat → Int32} {u : St2} (hts : tq_ts t s) (h : tq_K t s (1, qu, cn, n0, n1, ro, co, wa, pe, ins) o S Y u) : tq_Rd t 91 u (tq_K t s (2, 0, 1, 0, n1, ro, co, wa, pe, ins) o S Y) := by
  intro post hp
  obtain ⟨f0, f1, f2, a1, a2, a3, a4, a5, a6, a7, a8, a9, a10, a11, a12, a13, a14, a15, a16, a17, a18, a19, a20, a21, a22, a23, a24⟩ := u
  obtain ⟨h1, h2, h3⟩ := h
  obtain ⟨e20, e21, e22, e23, e23', e4, e5, e6, e7, e10⟩ := tq_inj h1
  have ht : t = 0 ∨ t = 1 := by rcases hts with ⟨rfl, rfl⟩ | ⟨rfl, rfl⟩ <;> simp
  have ht2 : t < 2 := by omega
  unfold wpX_read
  dsimp only
  rcases hts with ⟨rfl, rfl⟩ | ⟨rfl, rfl⟩
  all_goals
    refine ⟨(vp_in_iff.mpr (by decide)), nm_r e20 (tq_mn4 (tq_ns4 ?_))⟩
    refine ⟨(vp_in_iff.mpr (by decide)), nm_e (br_f (by decide) (br_f (by decide) (br_t rfl ⟨(vp_in_iff.mpr (by decide)), nm_e ⟨(vp_in_iff.mpr (by decide)), nm_e ⟨(vp_in_iff.mpr (by decide)), nm_e ?_⟩⟩⟩)))⟩
    exact hp _ ⟨tq_mk ⟨rfl, rfl, rfl, rfl, e23', e4, e5, e6, e7, e10⟩, h2, h3⟩
theorem tq_dig {t s : Nat} {st qu n1 ro co wa pe ins : Int32} {o : tq_R} {S Y : Nat → Int32} {u : St2} (hts : tq_ts t s) {d : Nat} (hd : d < 10) (hs0 : ¬ st = 0) (hs1 : ¬ st = 1) (h : tq_K t s (st, qu, 1, 0, n1, ro, co, wa, pe, ins) o S Y u) : tq_Rd t (nI (48 + d)) u (tq_K t s (3, qu, 1, nI d, n1, ro, co, wa, pe, ins) o S Y) := by
  intro post hp
  obtain ⟨f0, f1, f2, a1, a2, a3, a4, a5, a6, a7, a8, a9, a10, a11, a12, a13, a14, a15, a16, a17, a18, a19, a20, a21, a22, a23, a24⟩ := u
  obtain ⟨h1, h2, h3⟩ := h
  obtain ⟨e20, e21, e22, e23, e23', e4, e5, e6, e7, e10⟩ := tq_inj h1
  have ht : t = 0 ∨ t = 1 := by rcases hts with ⟨rfl, rfl⟩ | ⟨rfl, rfl⟩ <;> simp
  have ht2 : t < 2 := by omega
  unfold wpX_read
  dsimp only
  rcases hts with ⟨rfl, rfl⟩ | ⟨rfl, rfl⟩
  all_goals
    refine ⟨(vp_in_iff.mpr (by decide)), nm_r e20 (tq_mn7 hd hs0 hs1 (tq_ns7 ?_))⟩
    refine ⟨(vp_in_iff.mpr (by decide)), nm_e (br_f (by decide) (br_f (by decide) (br_f (by decide) (br_f (by decide) (br_t rfl ?_)))))⟩
    unfold wpX_addDigit
    try dsimp only
    refine ⟨(vp_in_iff.mpr (by decide)), nm_r e22 (br_f (by decide) (nm_e ⟨(vp_in_iff.mpr (by decide)), nm_r (e' := nI d) ((congrArg (fun z : Int32 => 10 * z + (nI (48 + d) - 48)) e23).trans (tq_d0 d)) (br_t (nI_le (b := 99) (by omega) (by decide)) ⟨(vp_in_iff.mpr (by decide)), nm_e ?_⟩)⟩))⟩
    exact hp _ ⟨tq_mk ⟨rfl, e21, e22, tq_b8 d (by omega), e23', e4, e5, e6, e7, e10⟩, h2, h3⟩
theorem tq_dig2 {t s : Nat} {st qu n0 ro co wa pe ins : Int32} {o : tq_R} {S Y : Nat → Int32} {u : St2} (hts : tq_ts t s) {d : Nat} (hd : d < 10) (hs0 : ¬ st = 0) (hs1 : ¬ st = 1) (h : tq_K t s (st, qu, 2, n0, 0, ro, co, wa, pe, ins) o S Y u) : tq_Rd t (nI (48 + d)) u (tq_K t s (3, qu, 2, n0, nI d, ro, co, wa, pe, ins) o S Y) := by
  intro post hp
  obtain ⟨f0, f1, f2, a1, a2, a3, a4, a5, a6, a7, a8, a9, a10, a11, a12, a13, a14, a15, a16, a17, a18, a19, a20, a21, a22, a23, a24⟩ := u
  obtain ⟨h1, h2, h3⟩ := h
  obtain ⟨e20, e21, e22, e23, e23', e4, e5, e6, e7, e10⟩ := tq_inj h1
  have ht : t = 0 ∨ t = 1 := by rcases hts with ⟨rfl, rfl⟩ | ⟨rfl, rfl⟩ <;> simp
  have ht2 : t < 2 := by omega
  unfold wpX_read
  dsimp only
  rcases hts with ⟨rfl, rfl⟩ | ⟨rfl, rfl⟩
  all_goals
    refine ⟨(vp_in_iff.mpr (by decide)), nm_r e20 (tq_mn7 hd hs0 hs1 (tq_ns7 ?_))⟩
    refine ⟨(vp_in_iff.mpr (by decide)), nm_e (br_f (by decide) (br_f (by decide) (br_f (by decide) (br_f (by decide) (br_t rfl ?_)))))⟩
    unfold wpX_addDigit
    try dsimp only
    refine ⟨(vp_in_iff.mpr (by decide)), nm_r e22 (br_f (by decide) (nm_e ⟨(vp_in_iff.mpr (by decide)), nm_r (e' := nI d) ((congrArg (fun z : Int32 => 10 * z + (nI (48 + d) - 48)) e23').trans (tq_d0 d)) (br_t (nI_le (b := 99) (by omega) (by decide)) ⟨(vp_in_iff.mpr (by decide)), nm_e ?_⟩)⟩))⟩
    exact hp _ ⟨tq_mk ⟨rfl, e21, e22, e23, tq_b8 d (by omega), e4, e5, e6, e7, e10⟩, h2, h3⟩
theorem tq_next {t s : Nat} {qu n0 n1 ro co wa pe ins : Int32} {o : tq_R} {S Y : Nat → Int32} {u : St2} (hts : tq_ts t s) (h : tq_K t s (3, qu, 1, n0, n1, ro, co, wa, pe, ins) o S Y u) : tq_Rd t 59 u (tq_K t s (3, qu, 2, n0, 0, ro, co, wa, pe, ins) o S Y) := by
  intro post hp
  obtain ⟨f0, f1, f2, a1, a2, a3, a4, a5, a6, a7, a8, a9, a10, a11, a12, a13, a14, a15, a16, a17, a18, a19, a20, a21, a22, a23, a24⟩ := u
  obtain ⟨h1, h2, h3⟩ := h
  obtain ⟨e20, e21, e22, e23, e23', e4, e5, e6, e7, e10⟩ := tq_inj h1
  have ht : t = 0 ∨ t = 1 := by rcases hts with ⟨rfl, rfl⟩ | ⟨rfl, rfl⟩ <;> simp
  have ht2 : t < 2 := by omega
  unfold wpX_read
  dsimp only
  rcases hts with ⟨rfl, rfl⟩ | ⟨rfl, rfl⟩
  all_goals
    refine ⟨(vp_in_iff.mpr (by decide)), nm_r e20 (tq_mn8 (tq_ns8 ?_))⟩
    refine ⟨(vp_in_iff.mpr (by decide)), nm_e (br_f (by decide) (br_f (by decide) (br_f (by decide) (br_f (by decide) (br_f (by decide) (br_t rfl ?_))))))⟩
    unfold wpX_nextNumber wX_nextNumber_29
    try dsimp only
    refine ⟨(vp_in_iff.mpr (by decide)), nm_r e22 (br_f (by decide) ⟨(vp_in_iff.mpr (by decide)), nm_e (br_f (by decide) ⟨(vp_in_iff.mpr (by decide)), nm_e ?_⟩)⟩)⟩
    exact hp _ ⟨tq_mk ⟨rfl, e21, rfl, e23, rfl, e4, e5, e6, e7, e10⟩, h2, h3⟩
theorem tq_H {t s : Nat} {ro co wa pe ins : Int32} {o : tq_R} {S Y : Nat → Int32} {u : St2} (hts : tq_ts t s) {r c : Nat} (hr : r < 100) (hc : c < 100) (h : tq_K t s (3, 0, 2, nI (r + 1), nI (c + 1), ro, co, wa, pe, ins) o S Y u) : tq_Rd t 72 u (tq_K t s (0, 0, 2, nI (r + 1), nI (c + 1), nI (min r 5), nI (min c 11), 0, pe, ins) o S Y) := by
  intro post hp
  obtain ⟨f0, f1, f2, a1, a2, a3, a4, a5, a6, a7, a8, a9, a10, a11, a12, a13, a14, a15, a16, a17, a18, a19, a20, a21, a22, a23, a24⟩ := u
  obtain ⟨h1, h2, h3⟩ := h
  obtain ⟨e20, e21, e22, e23, e23', e4, e5, e6, e7, e10⟩ := tq_inj h1
  have ht : t = 0 ∨ t = 1 := by rcases hts with ⟨rfl, rfl⟩ | ⟨rfl, rfl⟩ <;> simp
  have ht2 : t < 2 := by omega
  unfold wpX_read
  dsimp only
  have g0 : ¬ a22 t ≤ nI 0 := by rw [e22]; decide
  have g1 : ¬ a22 t ≤ nI 1 := by rw [e22]; decide
  rcases hts with ⟨rfl, rfl⟩ | ⟨rfl, rfl⟩
  all_goals
    refine ⟨(vp_in_iff.mpr (by decide)), nm_r e20 (tq_mn9 (b := 72) (by decide) (by decide) (tq_ns9 ?_))⟩
    refine ⟨(vp_in_iff.mpr (by decide)), nm_e (br_f (by decide) (br_f (by decide) (br_f (by decide) (br_f (by decide) (br_f (by decide) (br_f (by decide) (br_f (by decide) (br_t rfl ?_))))))))⟩
    unfold wpX_lastByte
    try dsimp only
    refine ⟨(vp_in_iff.mpr (by decide)), br_t e21 (br_f (by decide) (br_f (by decide) (br_f (by decide) (br_f (by decide) (br_f (by decide) (br_f (by decide) ?_))))))⟩
    refine br_f (by decide) (br_t rfl ?_)
    refine br_f (by decide) ?_
    refine br_f (by decide) (And.intro (vp_in_iff.mpr (by decide)) (nm_e ?_))
    refine tq_num (i := 0) ht2 (by decide) g0 e23 ?_
    refine br_f (nI_ne0 (by omega) (by omega)) ?_
    refine br_f (by decide) (br_t (by decide) ?_)
    unfold wX_lastByte_252 wpX_travel
    try dsimp only
    refine ⟨(vp_in_iff.mpr (by decide)), nm_e ⟨(vp_in_iff.mpr (by decide)), nm_e (br_f (by decide) (br_f (by decide) (br_f (by decide) (br_f (by decide) (br_f (by decide) (br_f (by decide) (br_t rfl ?_)))))))⟩⟩
    refine tq_num (i := 1) ht2 (by decide) g1 e23' ?_
    try dsimp only
    rw [nI_pred, nI_pred]
    refine tq_lesser (b := 5) (by omega) (by omega) ?_
    refine br_f (nI_ne0 (by omega) (by omega)) (tq_lesser (b := 11) (by omega) (by omega) ?_)
    unfold wX_travel_227 wX_travel_229 wpX_moveTo
    try dsimp only
    refine ⟨(vp_in_iff.mpr (by decide)), nm_e ⟨(vp_in_iff.mpr (by decide)), nm_e ?_⟩⟩
    exact hp _ ⟨tq_mk ⟨rfl, e21, e22, e23, e23', tq_b8 _ (by omega), tq_b8 _ (by omega), rfl, e7, e10⟩, h2, h3⟩
theorem tq_Cc {t s : Nat} {n1 wa pe ins : Int32} {o : tq_R} {S Y : Nat → Int32} {u : St2} (hts : tq_ts t s) {r c m : Nat} (hr : r < 128) (hc : c < 100) (hm : m < 100) (h : tq_K t s (3, 0, 1, nI (m + 1), n1, nI r, nI c, wa, pe, ins) o S Y u) : tq_Rd t 67 u (tq_K t s (0, 0, 1, nI (m + 1), n1, nI r, nI (min (c + (m + 1)) 11), 0, pe, ins) o S Y) := by
  intro post hp
  obtain ⟨f0, f1, f2, a1, a2, a3, a4, a5, a6, a7, a8, a9, a10, a11, a12, a13, a14, a15, a16, a17, a18, a19, a20, a21, a22, a23, a24⟩ := u
  obtain ⟨h1, h2, h3⟩ := h
  obtain ⟨e20, e21, e22, e23, e23', e4, e5, e6, e7, e10⟩ := tq_inj h1
  have ht : t = 0 ∨ t = 1 := by rcases hts with ⟨rfl, rfl⟩ | ⟨rfl, rfl⟩ <;> simp
  have ht2 : t < 2 := by omega
  unfold wpX_read
  dsimp only
  have g0 : ¬ a22 t ≤ nI 0 := by rw [e22]; decide
  rcases hts with ⟨rfl, rfl⟩ | ⟨rfl, rfl⟩
  all_goals
    refine ⟨(vp_in_iff.mpr (by decide)), nm_r e20 (tq_mn9 (b := 67) (by decide) (by decide) (tq_ns9 ?_))⟩
    refine ⟨(vp_in_iff.mpr (by decide)), nm_e (br_f (by decide) (br_f (by decide) (br_f (by decide) (br_f (by decide) (br_f (by decide) (br_f (by decide) (br_f (by decide) (br_t rfl ?_))))))))⟩
    unfold wpX_lastByte
    try dsimp only
    refine ⟨(vp_in_iff.mpr (by decide)), br_t e21 (br_f (by decide) (br_f (by decide) (br_f (by decide) (br_f (by decide) (br_f (by decide) (br_t (by decide) ?_))))))⟩
    refine br_f (by decide) ?_
    refine br_f (by decide) (And.intro (vp_in_iff.mpr (by decide)) (nm_e ?_))
    refine tq_num (i := 0) ht2 (by decide) g0 e23 ?_
    refine br_f (nI_ne0 (by omega) (by omega)) ?_
    refine br_f (by decide) (br_t (by decide) ?_)
    unfold wX_lastByte_252 wpX_travel
    try dsimp only
    refine ⟨(vp_in_iff.mpr (by decide)), nm_r e4 ⟨(vp_in_iff.mpr (by decide)), nm_r e5 (br_f (by decide) (br_f (by decide) (br_t rfl ?_)))⟩⟩
    rw [nI_add]
    refine tq_lesser (b := 11) (by omega) (by omega) ?_
    unfold wX_travel_229 wpX_moveTo
    try dsimp only
    refine ⟨(vp_in_iff.mpr (by decide)), nm_e ⟨(vp_in_iff.mpr (by decide)), nm_e ?_⟩⟩
    exact hp _ ⟨tq_mk ⟨rfl, e21, e22, e23, e23', tq_b8 _ (by omega), tq_b8 _ (by omega), rfl, e7, e10⟩, h2, h3⟩
theorem tq_m1 {t s : Nat} {n1 ro co wa ins : Int32} {o : tq_R} {S Y : Nat → Int32} {u : St2} (hts : tq_ts t s) (h : tq_K t s (3, 0, 1, 1, n1, ro, co, wa, 0, ins) o S Y u) : tq_Rd t 109 u (tq_K t s (0, 0, 1, 1, n1, ro, co, wa, 1, ins) o S Y) := by
  intro post hp
  obtain ⟨f0, f1, f2, a1, a2, a3, a4, a5, a6, a7, a8, a9, a10, a11, a12, a13, a14, a15, a16, a17, a18, a19, a20, a21, a22, a23, a24⟩ := u
  obtain ⟨h1, h2, h3⟩ := h
  obtain ⟨e20, e21, e22, e23, e23', e4, e5, e6, e7, e10⟩ := tq_inj h1
  have ht : t = 0 ∨ t = 1 := by rcases hts with ⟨rfl, rfl⟩ | ⟨rfl, rfl⟩ <;> simp
  have ht2 : t < 2 := by omega
  unfold wpX_read
  dsimp only
  have g0 : ¬ a22 t ≤ nI 0 := by rw [e22]; decide
  have g1 : a22 t ≤ 0 + 1 := by rw [e22]; decide
  rcases hts with ⟨rfl, rfl⟩ | ⟨rfl, rfl⟩
  all_goals
    refine ⟨(vp_in_iff.mpr (by decide)), nm_r e20 (tq_mn9 (b := 109) (by decide) (by decide) (tq_ns9 ?_))⟩
    refine ⟨(vp_in_iff.mpr (by decide)), nm_e (br_f (by decide) (br_f (by decide) (br_f (by decide) (br_f (by decide) (br_f (by decide) (br_f (by decide) (br_f (by decide) (br_t rfl ?_))))))))⟩
    unfold wpX_lastByte
    try dsimp only
    refine ⟨(vp_in_iff.mpr (by decide)), br_t e21 (br_t rfl ?_)⟩
    unfold wpX_changePen
    try dsimp only
    refine ⟨2, And.intro (vp_in_iff.mpr (by decide)) (br_f g0 (br_f (by decide) ?_))⟩
    refine tq_num (i := 0) ht2 (by decide) g0 e23 ?_
    refine And.intro (vp_in_iff.mpr (by decide)) (nm_r e7 (br_f (by decide) (br_t rfl ?_)))
    refine And.intro (by decide) (nm_e ?_)
    refine And.intro (vp_in_iff.mpr (by decide)) (nm_e (nm_e ?_))
    refine And.intro (vp_in_iff.mpr (by decide)) (br_t g1 ?_)
    exact hp _ ⟨tq_mk ⟨rfl, e21, e22, e23, e23', e4, e5, e6, rfl, e10⟩, h2, h3⟩
theorem tq_m4 {t s : Nat} {n1 ro co wa ins : Int32} {o : tq_R} {S Y : Nat → Int32} {u : St2} (hts : tq_ts t s) (h : tq_K t s (3, 0, 1, 4, n1, ro, co, wa, 0, ins) o S Y u) : tq_Rd t 109 u (tq_K t s (0, 0, 1, 4, n1, ro, co, wa, 2, ins) o S Y) := by
  intro post hp
  obtain ⟨f0, f1, f2, a1, a2, a3, a4, a5, a6, a7, a8, a9, a10, a11, a12, a13, a14, a15, a16, a17, a18, a19, a20, a21, a22, a23, a24⟩ := u
  obtain ⟨h1, h2, h3⟩ := h
  obtain ⟨e20, e21, e22, e23, e23', e4, e5, e6, e7, e10⟩ := tq_inj h1
  have ht : t = 0 ∨ t = 1 := by rcases hts with ⟨rfl, rfl⟩ | ⟨rfl, rfl⟩ <;> simp
  have ht2 : t < 2 := by omega
  unfold wpX_read
  dsimp only
  have g0 : ¬ a22 t ≤ nI 0 := by rw [e22]; decide
  have g1 : a22 t ≤ 0 + 1 := by rw [e22]; decide
  rcases hts with ⟨rfl, rfl⟩ | ⟨rfl, rfl⟩
  all_goals
    refine ⟨(vp_in_iff.mpr (by decide)), nm_r e20 (tq_mn9 (b := 109) (by decide) (by decide) (tq_ns9 ?_))⟩
    refine ⟨(vp_in_iff.mpr (by decide)), nm_e (br_f (by decide) (br_f (by decide) (br_f (by decide) (br_f (by decide) (br_f (by decide) (br_f (by decide) (br_f (by decide) (br_t rfl ?_))))))))⟩
    unfold wpX_lastByte
    try dsimp only
    refine ⟨(vp_in_iff.mpr (by decide)), br_t e21 (br_t rfl ?_)⟩
    unfold wpX_changePen
    try dsimp only
    refine ⟨2, And.intro (vp_in_iff.mpr (by decide)) (br_f g0 (br_f (by decide) ?_))⟩
    refine tq_num (i := 0) ht2 (by decide) g0 e23 ?_
    refine And.intro (vp_in_iff.mpr (by decide)) (nm_r e7 (br_f (by decide) (br_f (by decide) (br_t rfl ?_))))
    refine And.intro (by decide) (nm_e ?_)
    refine And.intro (vp_in_iff.mpr (by decide)) (nm_e (nm_e ?_))
    refine And.intro (vp_in_iff.mpr (by decide)) (br_t g1 ?_)
    exact hp _ ⟨tq_mk ⟨rfl, e21, e22, e23, e23', e4, e5, e6, rfl, e10⟩, h2, h3⟩
theorem tq_m7 {t s : Nat} {n1 ro co wa ins : Int32} {o : tq_R} {S Y : Nat → Int32} {u : St2} (hts : tq_ts t s) (h : tq_K t s (3, 0, 1, 7, n1, ro, co, wa, 0, ins) o S Y u) : tq_Rd t 109 u (tq_K t s (0, 0, 1, 7, n1, ro, co, wa, 4, ins) o S Y) := by
  intro post hp
  obtain ⟨f0, f1, f2, a1, a2, a3, a4, a5, a6, a7, a8, a9, a10, a11, a12, a13, a14, a15, a16, a17, a18, a19, a20, a21, a22, a23, a24⟩ := u
  obtain ⟨h1, h2, h3⟩ := h
  obtain ⟨e20, e21, e22, e23, e23', e4, e5, e6, e7, e10⟩ := tq_inj h1
  have ht : t = 0 ∨ t = 1 := by rcases hts with ⟨rfl, rfl⟩ | ⟨rfl, rfl⟩ <;> simp
  have ht2 : t < 2 := by omega
  unfold wpX_read
  dsimp only
  have g0 : ¬ a22 t ≤ nI 0 := by rw [e22]; decide
  have g1 : a22 t ≤ 0 + 1 := by rw [e22]; decide
  rcases hts with ⟨rfl, rfl⟩ | ⟨rfl, rfl⟩
  all_goals
    refine ⟨(vp_in_iff.mpr (by decide)), nm_r e20 (tq_mn9 (b := 109) (by decide) (by decide) (tq_ns9 ?_))⟩
    refine ⟨(vp_in_iff.mpr (by decide)), nm_e (br_f (by decide) (br_f (by decide) (br_f (by decide) (br_f (by decide) (br_f (by decide) (br_f (by decide) (br_f (by decide) (br_t rfl ?_))))))))⟩
    unfold wpX_lastByte
    try dsimp only
    refine ⟨(vp_in_iff.mpr (by decide)), br_t e21 (br_t rfl ?_)⟩
    unfold wpX_changePen
    try dsimp only
    refine ⟨2, And.intro (vp_in_iff.mpr (by decide)) (br_f g0 (br_f (by decide) ?_))⟩
    refine tq_num (i := 0) ht2 (by decide) g0 e23 ?_
    refine And.intro (vp_in_iff.mpr (by decide)) (nm_r e7 (br_f (by decide) (br_f (by decide) (br_f (by decide) (br_t rfl ?_)))))
    refine And.intro (by decide) (nm_e ?_)
    refine And.intro (vp_in_iff.mpr (by decide)) (nm_e (nm_e ?_))
    refine And.intro (vp_in_iff.mpr (by decide)) (br_t g1 ?_)
    exact hp _ ⟨tq_mk ⟨rfl, e21, e22, e23, e23', e4, e5, e6, rfl, e10⟩, h2, h3⟩
theorem tq_cr {t s : Nat} {qu cn n0 n1 ro co wa pe ins : Int32} {o : tq_R} {S Y : Nat → Int32} {u : St2} (hts : tq_ts t s) (h : tq_K t s (0, qu, cn, n0, n1, ro, co, wa, pe, ins) o S Y u) : tq_Rd t 13 u (tq_K t s (0, qu, cn, n0, n1, ro, 0, 0, pe, ins) o S Y) := by
  intro post hp
  obtain ⟨f0, f1, f2, a1, a2, a3, a4, a5, a6, a7, a8, a9, a10, a11, a12, a13, a14, a15, a16, a17, a18, a19, a20, a21, a22, a23, a24⟩ := u
  obtain ⟨h1, h2, h3⟩ := h
  obtain ⟨e20, e21, e22, e23, e23', e4, e5, e6, e7, e10⟩ := tq_inj h1
  have ht : t = 0 ∨ t = 1 := by rcases hts with ⟨rfl, rfl⟩ | ⟨rfl, rfl⟩ <;> simp
  have ht2 : t < 2 := by omega
  unfold wpX_read
  dsimp only
  rcases hts with ⟨rfl, rfl⟩ | ⟨rfl, rfl⟩
  all_goals
    refine ⟨(vp_in_iff.mpr (by decide)), nm_r e20 (tq_mn2 (tq_ns2 ?_))⟩
    refine ⟨(vp_in_iff.mpr (by decide)), nm_e (br_f (by decide) (br_t rfl ?_))⟩
    unfold wpX_control
    try dsimp only
    refine br_f (by decide) (br_f (by decide) ⟨(vp_in_iff.mpr (by decide)), nm_e ⟨(vp_in_iff.mpr (by decide)), nm_e (br_f (by decide) (br_f (by decide) (br_f (by decide) ⟨(vp_in_iff.mpr (by decide)), nm_e ?_⟩)))⟩⟩)
    exact hp _ ⟨tq_mk ⟨rfl, e21, e22, e23, e23', e4, rfl, rfl, e7, e10⟩, h2, h3⟩
theorem tq_sign {t s : Nat} {qu cn n0 n1 pe : Int32} {o : tq_R} {S Y : Nat → Int32} {u : St2} (hts : tq_ts t s) {b r c : Nat} (hb1 : 32 ≤ b) (hb2 : b < 127) (hr : r < 6) (hc : c < 11) (hpe : pe.toInt8.toInt32 = pe) (h : tq_K t s (0, qu, cn, n0, n1, nI r, nI c, 0, pe, 0) o S Y u) : tq_Rd t (nI b) u (tq_K t s (0, qu, cn, n0, n1, nI r, nI (c + 1), 0, pe, 0) o (upd S (144 * t + 12 * r + c) (nI b)) (upd Y (144 * t + 12 * r + c) pe)) := by
  intro post hp
  obtain ⟨f0, f1, f2, a1, a2, a3, a4, a5, a6, a7, a8, a9, a10, a11, a12, a13, a14, a15, a16, a17, a18, a19, a20, a21, a22, a23, a24⟩ := u
  obtain ⟨h1, h2, h3⟩ := h
  obtain ⟨e20, e21, e22, e23, e23', e4, e5, e6, e7, e10⟩ := tq_inj h1
  have ht : t = 0 ∨ t = 1 := by rcases hts with ⟨rfl, rfl⟩ | ⟨rfl, rfl⟩ <;> simp
  have ht2 : t < 2 := by omega
  unfold wpX_read
  dsimp only
  have h3' := h3
  obtain ⟨c0, c1, s0, s1, sg, sy⟩ := h3'
  have e4' : a4 (nI t).toNatClampNeg = nI r := by rw [nI_clamp (show t < 2 ^ 31 by omega)]; exact e4
  have e7' : vp_nar .byte (a7 (nI t).toNatClampNeg) = pe := by rw [nI_clamp (show t < 2 ^ 31 by omega), e7, vp_nar_byte, hpe]
  have e5' : (a5 t + 1).toInt8.toInt32 = nI (c + 1) := by rw [e5, nI_1, tq_b8 _ (by omega)]
  have e8' : (nI b).toInt8.toInt32 = nI b := tq_b8 _ (by omega)
  have gs : ∀ q j, j < 288 → upd a1 q (nI b) j = upd S q (nI b) j := by
    intro q j hj
    unfold upd
    rw [sg j hj]
  have gy : ∀ q j, j < 288 → upd a2 q pe j = upd Y q pe j := by
    intro q j hj
    unfold upd
    rw [sy j hj]
  rcases hts with ⟨rfl, rfl⟩ | ⟨rfl, rfl⟩
  all_goals
    refine ⟨(vp_in_iff.mpr (by decide)), nm_r e20 (tq_mn1 hb1 hb2 (tq_ns1 ?_))⟩
    refine ⟨(vp_in_iff.mpr (by decide)), nm_e (br_t rfl ?_)⟩
    unfold wpX_putSign
    try dsimp only
    refine ⟨(vp_in_iff.mpr (by decide)), br_t e6 ?_⟩
    unfold wX_putSign_36
    rw [e4']
    refine And.intro (vp_in_iff.mpr (by decide)) (tq_la (S := S) (Y := Y) ht h3 hr ?_)
    refine And.intro (vp_in_iff.mpr (by decide)) (nm_r e5 (And.intro (vp_in_iff.mpr (by decide)) (br_t e10 ?_)))
    unfold wX_putSign_99
    rw [e7', e8', nI_add, nI_clamp (by omega)]
    refine ⟨vp_in_nI (by omega) (by decide), nm_e ⟨(vp_in_iff.mpr (by decide)), vp_in_nI (by omega) (by decide), nm_e (pk_le 11 c (fun z => absurd z (by omega)) (fun _ => ⟨(vp_in_iff.mpr (by decide)), (vp_in_iff.mpr (by decide)), nm_e ?_⟩))⟩⟩
    exact hp _ ⟨tq_mk ⟨rfl, e21, e22, e23, e23', e4, e5', e6, e7, e10⟩, h2, c0, c1, s0, s1, gs _, gy _⟩
end
section
/-! the constructor -/
def tq_fl (f : Nat → Int32) (lo n : Nat) (v : Int32) : Nat → Int32 := fun j => if lo ≤ j ∧ j < lo + n then v else f j
theorem tq_fl0 (f : Nat → Int32) (lo : Nat) (v : Int32) : f = tq_fl f lo 0 v := by
  funext j
  unfold tq_fl
  rw [if_neg (by omega)]
theorem tq_fls (f : Nat → Int32) (lo i : Nat) (v : Int32) : upd (tq_fl f lo i v) (lo + i) v = tq_fl f lo (i + 1) v := by
  funext j
  unfold upd tq_fl
  by_cases e : j = lo + i
  · rw [if_pos e, if_pos (by omega)]
  · rw [if_neg e]
    by_cases e2 : lo ≤ j ∧ j < lo + i
    · rw [if_pos e2, if_pos (by omega)]
    · rw [if_neg e2, if_neg (by omega)]
theorem tq_flfl (f : Nat → Int32) (lo n m : Nat) (v : Int32) : tq_fl (tq_fl f lo n v) (lo + n) m v = tq_fl f lo (n + m) v := by
  funext j
  unfold tq_fl
  by_cases e : lo + n ≤ j ∧ j < lo + n + m
  · rw [if_pos e, if_pos (by omega)]
  · rw [if_neg e]
    by_cases e2 : lo ≤ j ∧ j < lo + n
    · rw [if_pos e2, if_pos (by omega)]
    · rw [if_neg e2, if_neg (by omega)]
def tq_sl (f : Nat → Int32) (t n : Nat) : Nat → Int32 := fun j => if 12 * t ≤ j ∧ j < 12 * t + n then nI (j - 12 * t) else f j
theorem tq_sl0 (f : Nat → Int32) (t : Nat) : f = tq_sl f t 0 := by
  funext j
  unfold tq_sl
  rw [if_neg (by omega)]
theorem tq_sls (f : Nat → Int32) (t n : Nat) : upd (tq_sl f t n) (12 * t + n) (nI n) = tq_sl f t (n + 1) := by
  funext j
  unfold upd tq_sl
  by_cases e : j = 12 * t + n
  · rw [if_pos e, if_pos (by omega)]
    exact congrArg nI (by omega)
  · rw [if_neg e]
    by_cases e2 : 12 * t ≤ j ∧ j < 12 * t + n
    · rw [if_pos e2, if_pos (by omega)]
    · rw [if_neg e2, if_neg (by omega)]
theorem tq_sl_at (f : Nat → Int32) {t n i : Nat} (h : i < n) : tq_sl f t n (12 * t + i) = nI i := by
  unfold tq_sl
  rw [if_pos (by omega)]
  exact congrArg nI (by omega)
theorem tq_ixs (t k r : Nat) : (nI t * 2 + nI k) * 6 + nI r = nI (12 * t + (6 * k + r)) := by
  rw [show (2 : Int32) = nI 2 from rfl, show (6 : Int32) = nI 6 from rfl, pk_mul, nI_add, pk_mul, nI_add]
  exact congrArg nI (by omega)
theorem tq_ixl (t k r : Nat) : (nI t * 12 + nI (6 * k + r)) * 12 = nI (144 * t + 72 * k + 12 * r) := by
  rw [show (12 : Int32) = nI 12 from rfl, pk_mul, nI_add, pk_mul]
  exact congrArg nI (by omega)
theorem tq_ix6 (k r : Nat) : nI k * 6 + nI r = nI (6 * k + r) := by
  rw [show (6 : Int32) = nI 6 from rfl, pk_mul, nI_add]
  exact congrArg nI (by omega)
theorem tq_lak {post : Int32 → Prop} {t k r : Nat} {f1 f2 : Int32} {a1 a2 a3 a4 a5 a6 a7 a8 a9 a10 a11 a12 a13 a14 a15 a16 a17 a18 a19 a20 a21 a22 a23 a24 : Nat → Int32} (ht : t < 2) (hk : k < 2) (hr : r < 6) (h12 : a12 t = nI k) (hs : a3 (12 * t + (6 * k + r)) = nI (6 * k + r)) (h : post (nI (144 * t + 72 * k + 12 * r))) : wpX_lineAt post (nI t, f1, f2, a1, a2, a3, a4, a5, a6, a7, a8, a9, a10, a11, a12, a13, a14, a15, a16, a17, a18, a19, a20, a21, a22, a23, a24) (nI r) := by
  unfold wpX_lineAt wpX_screen
  try dsimp only
  refine ⟨pk_in t 2 ht, ?_⟩
  rw [nI_clamp (show t < 2 ^ 31 by omega), h12, tq_ixs, nI_clamp (show 12 * t + (6 * k + r) < 2 ^ 31 by omega), hs, tq_ixl]
  exact ⟨vp_in_nI (by omega) (by decide), h⟩
theorem tq_ec {post : St2 → Prop} {L : Nat} {p0 : Int32} {f0 f1 f2 : Int32} {a1 a2 a3 a4 a5 a6 a7 a8 a9 a10 a11 a12 a13 a14 a15 a16 a17 a18 a19 a20 a21 a22 a23 a24 : Nat → Int32} (hL : L + 12 ≤ 288) (hla : ∀ ψ : Int32 → Prop, ψ (nI L) → wpX_lineAt ψ (f0, f1, f2, a1, a2, a3, a4, a5, a6, a7, a8, a9, a10, a11, a12, a13, a14, a15, a16, a17, a18, a19, a20, a21, a22, a23, a24) p0) (h : post (f0, f1, f2, tq_fl a1 L 12 32, tq_fl a2 L 12 0, a3, a4, a5, a6, a7, a8, a9, a10, a11, a12, a13, a14, a15, a16, a17, a18, a19, a20, a21, a22, a23, a24)) : wpX_emptyCells post (f0, f1, f2, a1, a2, a3, a4, a5, a6, a7, a8, a9, a10, a11, a12, a13, a14, a15, a16, a17, a18, a19, a20, a21, a22, a23, a24) p0 0 12 := by
  unfold wpX_emptyCells
  try dsimp only
  refine hla _ ?_
  exact pk_loop (σ := (Nat → Int32) × (Nat → Int32)) (fun n c s => wX_emptyCells_10 post 12 (nI L) f0 f1 f2 n (nI c) s.1 s.2 a3 a4 a5 a6 a7 a8 a9 a10 a11 a12 a13 a14 a15 a16 a17 a18 a19 a20 a21 a22 a23 a24) (fun c s => s.1 = tq_fl a1 L c 32 ∧ s.2 = tq_fl a2 L c 0) 12 0 (a1, a2) (by omega) ⟨tq_fl0 _ _ _, tq_fl0 _ _ _⟩
    (fun n s hs => pk_le 12 12 (fun _ => by rw [hs.1, hs.2]; exact h) (fun z => absurd z (by omega)))
    (fun n c s hc hs hw => pk_le 12 c (fun z => absurd z (by omega)) (fun _ => ⟨pk_in (L + c) 288 (by omega) (nI_add _ _), nm_r (e' := tq_fl a1 L (c + 1) 32) (by rw [nI_add, nI_clamp (by omega), hs.1, tq_fls]) ⟨pk_in (L + c) 288 (by omega) (nI_add _ _), nm_r (e' := tq_fl a2 L (c + 1) 0) (by rw [nI_add, nI_clamp (by omega), hs.2, tq_fls]) (nm_r (nI_1 c) (hw (_, _) ⟨rfl, rfl⟩))⟩⟩))
theorem tq_er {post : St2 → Prop} {t k : Nat} {f1 f2 : Int32} {a1 a2 a3 a4 a5 a6 a7 a8 a9 a10 a11 a12 a13 a14 a15 a16 a17 a18 a19 a20 a21 a22 a23 a24 : Nat → Int32} (ht : t < 2) (hk : k < 2) (h12 : a12 t = nI k) (hsl : ∀ r, r < 6 → a3 (12 * t + (6 * k + r)) = nI (6 * k + r)) (h : post (nI t, f1, f2, tq_fl a1 (144 * t + 72 * k) 72 32, tq_fl a2 (144 * t + 72 * k) 72 0, a3, a4, a5, a6, a7, a8, a9, a10, a11, a12, a13, a14, a15, a16, a17, a18, a19, a20, a21, a22, a23, a24)) : wpX_emptyRows post (nI t, f1, f2, a1, a2, a3, a4, a5, a6, a7, a8, a9, a10, a11, a12, a13, a14, a15, a16, a17, a18, a19, a20, a21, a22, a23, a24) 0 6 := by
  unfold wpX_emptyRows
  try dsimp only
  refine pk_loop (σ := (Nat → Int32) × (Nat → Int32)) (fun n r s => wX_emptyRows_2 post 6 n (nI r) (nI t) f1 f2 s.1 s.2 a3 a4 a5 a6 a7 a8 a9 a10 a11 a12 a13 a14 a15 a16 a17 a18 a19 a20 a21 a22 a23 a24) (fun r s => s.1 = tq_fl a1 (144 * t + 72 * k) (12 * r) 32 ∧ s.2 = tq_fl a2 (144 * t + 72 * k) (12 * r) 0) 6 0 (a1, a2) (by omega) ⟨tq_fl0 _ _ _, tq_fl0 _ _ _⟩
    (fun n s hs => pk_le 6 6 (fun _ => by rw [hs.1, hs.2]; exact h) (fun z => absurd z (by omega)))
    (fun n r s hr hs hw => pk_le 6 r (fun z => absurd z (by omega)) (fun _ => ?_))
  refine tq_ec (L := 144 * t + 72 * k + 12 * r) (by omega) (fun ψ hψ => tq_lak ht hk hr h12 (hsl r hr) hψ) ?_
  try dsimp only
  refine nm_r (nI_1 r) ?_
  rw [hs.1, hs.2, tq_flfl, tq_flfl]
  exact hw (_, _) ⟨rfl, rfl⟩
theorem tq_c9 {post : St2 → Prop} {J2 : Int32 → (Nat → Int32) → (Nat → Int32) → (Nat → Int32) → (Nat → Int32) → (Nat → Int32) → (Nat → Int32) → (Nat → Int32) → (Nat → Int32) → (Nat → Int32) → (Nat → Int32) → (Nat → Int32) → (Nat → Int32) → (Nat → Int32) → (Nat → Int32) → (Nat → Int32) → (Nat → Int32) → (Nat → Int32) → (Nat → Int32) → (Nat → Int32) → (Nat → Int32) → (Nat → Int32) → (Nat → Int32) → (Nat → Int32) → (Nat → Int32) → Prop} {t k : Nat} {g : Nat → Int32} {f1 f2 : Int32} {a1 a2 a3 a4 a5 a6 a7 a8 a9 a10 a11 a12 a13 a14 a15 a16 a17 a18 a19 a20 a21 a22 a23 a24 : Nat → Int32} (ht : t < 2) (hk : k < 2) (h3 : a3 = tq_sl g t (6 * k)) (h : J2 (nI (k + 1)) a1 a2 (tq_sl g t (6 * k + 6)) a4 a5 a6 a7 a8 a9 a10 a11 a12 a13 a14 a15 a16 a17 a18 a19 a20 a21 a22 a23 a24) : ∃ fu9 : Nat, wX_clearAll_9 post J2 (nI k) (nI t) f1 f2 fu9 0 a1 a2 a3 a4 a5 a6 a7 a8 a9 a10 a11 a12 a13 a14 a15 a16 a17 a18 a19 a20 a21 a22 a23 a24 := by
  refine pk_loop (σ := Nat → Int32) (fun n r s => wX_clearAll_9 post J2 (nI k) (nI t) f1 f2 n (nI r) a1 a2 s a4 a5 a6 a7 a8 a9 a10 a11 a12 a13 a14 a15 a16 a17 a18 a19 a20 a21 a22 a23 a24) (fun r s => s = tq_sl g t (6 * k + r)) 6 0 a3 (by omega) h3
    (fun n s hs => pk_le 6 6 (fun _ => nm_r (nI_1 k) (by rw [hs]; exact h)) (fun z => absurd z (by omega)))
    (fun n r s hr hs hw => pk_le 6 r (fun z => absurd z (by omega)) (fun _ => ?_))
  refine ⟨pk_in (12 * t + (6 * k + r)) 24 (by omega) (tq_ixs t k r), nm_r (e' := tq_sl g t (6 * k + (r + 1))) ?_ (nm_r (nI_1 r) (hw _ rfl))⟩
  rw [tq_ixs, nI_clamp (by omega), tq_ix6, tq_b8 _ (by omega), hs, tq_sls]
  rfl
theorem tq_ca {post : St2 → Prop} {t : Nat} {f1 f2 : Int32} {a1 a2 a3 a4 a5 a6 a7 a8 a9 a10 a11 a12 a13 a14 a15 a16 a17 a18 a19 a20 a21 a22 a23 a24 : Nat → Int32} (ht : t < 2) (h : ∀ g1 g2 : Int32, post (nI t, g1, g2, tq_fl (tq_fl a1 (144 * t + 72 * 1) 72 32) (144 * t + 72 * 0) 72 32, tq_fl (tq_fl a2 (144 * t + 72 * 1) 72 0) (144 * t + 72 * 0) 72 0, tq_sl a3 t 12, upd a4 t 0, upd a5 t 0, upd a6 t 0, upd a7 t 0, upd a8 t 0, upd a9 t 5, upd a10 t 0, upd a11 t 1, upd (upd a12 t 1) t 0, upd a13 t 0, upd a14 t 0, upd a15 t 0, a16, a17, a18, a19, upd a20 t 0, a21, a22, a23, a24)) : wpX_clearAll post (nI t, f1, f2, a1, a2, a3, a4, a5, a6, a7, a8, a9, a10, a11, a12, a13, a14, a15, a16, a17, a18, a19, a20, a21, a22, a23, a24) := by
  have hc : (nI t).toNatClampNeg = t := nI_clamp (by omega)
  have hv : vp_in (nI t) 2 := pk_in t 2 ht
  unfold wpX_clearAll
  try dsimp only
  refine ⟨3, br_f (by decide) (tq_c9 (k := 0) (g := a3) ht (by decide) (tq_sl0 _ _) ?_)⟩
  refine br_f (by decide) (tq_c9 (k := 1) (g := a3) ht (by decide) rfl ?_)
  unfold wX_clearAll_2
  refine br_t (by decide) ?_
  rw [hc]
  refine ⟨hv, nm_e (tq_er (k := 1) ht (by decide) pk_us (fun r hr => tq_sl_at _ (by omega)) ?_)⟩
  try dsimp only
  rw [hc]
  refine ⟨hv, nm_e (tq_er (k := 0) ht (by decide) pk_us (fun r hr => tq_sl_at _ (by omega)) ?_)⟩
  unfold wpX_moveTo wpX_wholeRegion
  try dsimp only
  rw [hc]
  refine ⟨hv, nm_e ⟨hv, nm_e ⟨hv, nm_e ⟨hv, nm_e ⟨hv, nm_e ⟨hv, nm_e ⟨hv, nm_e ⟨hv, nm_e ⟨hv, nm_e ⟨hv, nm_e ⟨hv, nm_e ⟨hv, nm_e ?_⟩⟩⟩⟩⟩⟩⟩⟩⟩⟩⟩⟩
  exact ⟨fun _ => h 0 0, fun _ => h f1 f2⟩
theorem tq_init {post : St2 → Prop} (hp : ∀ u', tq_K 0 1 (0, 0, 0, 0, 0, 0, 0, 0, 0, 0) (0, 0, 0, 0, 0, 0, 0, 0, 0, 0) (fun _ => 32) (fun _ => 0) u' → post u') : wpX_init post 24 742 (0, 0, 0) := by
  unfold wpX_init
  try dsimp only
  repeat' (refine And.intro (by decide) ?_)
  refine tq_ca (t := 1) (by decide) (fun g1 g2 => ?_)
  try dsimp only
  refine tq_ca (t := 0) (by decide) (fun g1 g2 => ?_)
  refine hp _ ⟨tq_mk ⟨rfl, rfl, rfl, rfl, rfl, rfl, rfl, rfl, rfl, rfl⟩, tq_mk ⟨rfl, rfl, rfl, rfl, rfl, rfl, rfl, rfl, rfl, rfl⟩, rfl, rfl, ?_, ?_, ?_, ?_⟩
  · intro r hr
    dsimp only
    unfold tq_sl
    rw [if_pos (by omega)]
    exact congrArg nI (by omega)
  · intro r hr
    dsimp only
    unfold tq_sl
    rw [if_neg (by omega), if_pos (by omega)]
    exact congrArg nI (by omega)
  · intro j hj
    dsimp only
    unfold tq_fl
    split
    · rfl
    · split
      · rfl
      · split
        · rfl
        · split
          · rfl
          · exfalso
            omega
  · intro j hj
    dsimp only
    unfold tq_fl
    simp
end
section
/-! what is compared: one cell q of the terminal that is fed differs -/
def tq_D (S Y : Nat → Int32) (q : Nat) : Prop := (∀ i j, (S i = S j ∧ Y i = Y j) ↔ (i = q ↔ j = q)) ∧ (∀ j, j ≠ q → S j = 32 ∧ Y j = 0)
theorem tq_Dmk {q : Nat} {b y : Int32} (hb : b ≠ 32) : tq_D (upd (fun _ => 32) q b) (upd (fun _ => 0) q y) q := by
  refine ⟨fun i j => ?_, fun j hj => ⟨pk_un hj, pk_un hj⟩⟩
  by_cases hi : i = q
  · by_cases hj : j = q
    · rw [hi, hj]
      simp
    · rw [hi, pk_us, pk_us, pk_un hj, pk_un hj]
      exact ⟨fun z => absurd z.1 hb, fun z => absurd (z.mp rfl) hj⟩
  · by_cases hj : j = q
    · rw [hj, pk_us, pk_us, pk_un hi, pk_un hi]
      exact ⟨fun z => absurd z.1.symm hb, fun z => absurd (z.mpr rfl) hi⟩
    · rw [pk_un hi, pk_un hi, pk_un hj, pk_un hj]
      exact ⟨fun _ => ⟨fun z => absurd z hi, fun z => absurd z hj⟩, fun _ => ⟨rfl, rfl⟩⟩
theorem tq_si {post : Int32 → Prop} {S Y : Nat → Int32} {q d k r : Nat} {u : St2} (C : tq_C S Y u) (D : tq_D S Y q) (hq : q = 12 * d + k) (hd : d < 6) (hk : k < 12) (hr : r < 6) (h : post (nI (if r = d then 1 else 0))) : wpX_staleIn post u (nI r) := by
  obtain ⟨f0, f1, f2, a1, a2, a3, a4, a5, a6, a7, a8, a9, a10, a11, a12, a13, a14, a15, a16, a17, a18, a19, a20, a21, a22, a23, a24⟩ := u
  unfold wpX_staleIn
  try dsimp only
  refine tq_lo0 C hr (tq_lo1 C hr ?_)
  refine pk_loop (σ := Nat) (fun n c m => wX_staleIn_20 post (nI (12 * r)) (nI (144 + 12 * r)) f0 f1 f2 a1 a2 a3 a4 a5 a6 a7 a8 a9 a10 a11 a12 a13 a14 a15 a16 a17 a18 a19 a20 a21 a22 a23 a24 n (nI m) (nI c)) (fun c m => (r = d ∧ k < c → m = 1) ∧ (¬ (r = d ∧ k < c) → m = 0)) 12 0 0 (by omega) (by omega) ?_ ?_
  · intro n m hm
    refine pk_le 12 12 (fun _ => ?_) (fun z => absurd z (by omega))
    have e : m = (if r = d then 1 else 0) := by split <;> omega
    rw [e]
    exact h
  · intro n c m hc hm hw
    refine pk_le 12 c (fun z => absurd z (by omega)) (fun _ => tq_sc C (i := 12 * r + c) (j := 144 + 12 * r + c) (by omega) (by omega) (nI_add _ _) (nI_add _ _) (fun e => ?_) (fun e => ?_))
    · have e' := (D.1 _ _).mp e
      exact br_f (by decide) (nm_r (e' := nI m) (nI_add m 0) (nm_r (nI_1 c) (hw m (by omega))))
    · have e' : ¬ (12 * r + c = q ↔ 144 + 12 * r + c = q) := fun z => e ((D.1 _ _).mpr z)
      exact br_t rfl (nm_r (nI_1 m) (nm_r (nI_1 c) (hw (m + 1) (by omega))))
theorem tq_st {post : Int32 → Prop} {S Y : Nat → Int32} {q d k : Nat} {u : St2} (C : tq_C S Y u) (D : tq_D S Y q) (hq : q = 12 * d + k) (hd : d < 6) (hk : k < 12) (h : post 1) : wpX_stale post u := by
  obtain ⟨f0, f1, f2, a1, a2, a3, a4, a5, a6, a7, a8, a9, a10, a11, a12, a13, a14, a15, a16, a17, a18, a19, a20, a21, a22, a23, a24⟩ := u
  unfold wpX_stale
  try dsimp only
  refine pk_loop (σ := Nat) (fun n r m => wX_stale_4 post f0 f1 f2 a1 a2 a3 a4 a5 a6 a7 a8 a9 a10 a11 a12 a13 a14 a15 a16 a17 a18 a19 a20 a21 a22 a23 a24 n (nI m) (nI r)) (fun r m => (d < r → m = 1) ∧ (r ≤ d → m = 0)) 6 0 0 (by omega) (by omega) ?_ ?_
  · intro n m hm
    refine pk_le 6 6 (fun _ => ?_) (fun z => absurd z (by omega))
    have e : m = 1 := by omega
    subst e
    exact h
  · intro n r m hr hm hw
    refine pk_le 6 r (fun z => absurd z (by omega)) (fun _ => tq_si C D hq hd hk hr ?_)
    refine nm_r (nI_add _ _) (nm_r (nI_1 r) (hw _ ?_))
    try dsimp only
    split <;> omega
theorem tq_fs {post : Int32 → Prop} {S Y : Nat → Int32} {e r : Nat} {u : St2} (C : tq_C S Y u) (hr : r < 6) (he : e ≤ 12) (h1 : ∀ c, c < e → S (12 * r + c) = S (144 + 12 * r + c) ∧ Y (12 * r + c) = Y (144 + 12 * r + c)) (h2 : e < 12 → ¬ (S (12 * r + e) = S (144 + 12 * r + e) ∧ Y (12 * r + e) = Y (144 + 12 * r + e))) (h : post (nI e)) : wpX_firstStale post u (nI r) := by
  obtain ⟨f0, f1, f2, a1, a2, a3, a4, a5, a6, a7, a8, a9, a10, a11, a12, a13, a14, a15, a16, a17, a18, a19, a20, a21, a22, a23, a24⟩ := u
  unfold wpX_firstStale
  try dsimp only
  refine tq_lo0 C hr (tq_lo1 C hr ?_)
  exact pk_loop (σ := Unit) (fun n c _ => wX_firstStale_17 post (nI (12 * r)) (nI (144 + 12 * r)) f0 f1 f2 a1 a2 a3 a4 a5 a6 a7 a8 a9 a10 a11 a12 a13 a14 a15 a16 a17 a18 a19 a20 a21 a22 a23 a24 n (nI c)) (fun _ _ => True) e 0 () (by omega) trivial
    (fun n _ _ => pk_le 12 e (fun _ => h) (fun z => tq_sc C (i := 12 * r + e) (j := 144 + 12 * r + e) (by omega) (by omega) (nI_add _ _) (nI_add _ _) (fun s => absurd s (h2 z)) (fun _ => br_t rfl h)))
    (fun n c _ hc _ hw => pk_le 12 c (fun z => absurd z (by omega)) (fun _ => tq_sc C (i := 12 * r + c) (j := 144 + 12 * r + c) (by omega) (by omega) (nI_add _ _) (nI_add _ _) (fun _ => br_f (by decide) (nm_r (nI_1 c) (hw () trivial))) (fun z => absurd (h1 c hc) z)))
theorem tq_ra50 {post : Int32 → Prop} {J4 : Int32 → Int32 → Prop} {x1 : Int32} {S Y : Nat → Int32} {q d k r s m : Nat} {f0 f1 f2 : Int32} {a1 a2 a3 a4 a5 a6 a7 a8 a9 a10 a11 a12 a13 a14 a15 a16 a17 a18 a19 a20 a21 a22 a23 a24 : Nat → Int32} (C : tq_C S Y (f0, f1, f2, a1, a2, a3, a4, a5, a6, a7, a8, a9, a10, a11, a12, a13, a14, a15, a16, a17, a18, a19, a20, a21, a22, a23, a24)) (D : tq_D S Y q) (hq : q = 12 * d + k) (hd : d < 6) (hk : k < 12) (hr : r < 6) (hs : s < 6) (h : ∀ m', (r = d → m' = m) → (r ≠ d → m' = m + 1) → J4 (nI m') (nI (r + 1))) : ∃ fu50 : Nat, wX_rightAfter_50 post J4 x1 (nI m) (nI r) (nI (12 * r)) (nI (144 + 12 * s)) f0 f1 f2 a1 a2 a3 a4 a5 a6 a7 a8 a9 a10 a11 a12 a13 a14 a15 a16 a17 a18 a19 a20 a21 a22 a23 a24 fu50 1 0 := by
  refine pk_loop (σ := Nat) (fun n c e => wX_rightAfter_50 post J4 x1 (nI m) (nI r) (nI (12 * r)) (nI (144 + 12 * s)) f0 f1 f2 a1 a2 a3 a4 a5 a6 a7 a8 a9 a10 a11 a12 a13 a14 a15 a16 a17 a18 a19 a20 a21 a22 a23 a24 n (nI e) (nI c)) (fun c e => (r = d ∧ k < c → e = 0) ∧ (¬ (r = d ∧ k < c) → e = 1)) 12 0 1 (by omega) (by omega) ?_ ?_
  · intro n e he
    refine pk_le 12 12 (fun _ => ?_) (fun z => absurd z (by omega))
    exact pk_eq e 0 (fun z => nm_r (e' := nI m) (nI_add m 0) (nm_r (nI_1 r) (h m (by omega) (by omega)))) (fun z => nm_r (nI_1 m) (nm_r (nI_1 r) (h (m + 1) (by omega) (by omega)))) rfl rfl (by omega) (by omega)
  · intro n c e hc he hw
    refine pk_le 12 c (fun z => absurd z (by omega)) (fun _ => pk_eq e 0 (fun z => ?_) (fun z => ?_) rfl rfl (by omega) (by omega))
    · exact pk_eq e 0 (fun z => nm_r (e' := nI m) (nI_add m 0) (nm_r (nI_1 r) (h m (by omega) (by omega)))) (fun z' => absurd z z') rfl rfl (by omega) (by omega)
    · refine tq_sc C (i := 12 * r + c) (j := 144 + 12 * s + c) (by omega) (by omega) (nI_add _ _) (nI_add _ _) (fun g => ?_) (fun g => ?_)
      · have g' := (D.1 _ _).mp g
        exact nm_r (nI_1 c) (hw 1 (by omega))
      · have g' : ¬ (12 * r + c = q ↔ 144 + 12 * s + c = q) := fun z => g ((D.1 _ _).mpr z)
        exact nm_r (nI_1 c) (hw 0 (by omega))
theorem tq_lt0 {x : Int32} {k : Nat} (hk : k < 2 ^ 31) (h : x < 0) : x < nI k := by
  rw [Int32.lt_iff_toInt_lt] at h ⊢
  rw [nI_toInt hk]
  have e : (0 : Int32).toInt = 0 := rfl
  omega
theorem tq_ra {post : Int32 → Prop} {up : Int32} {S Y : Nat → Int32} {q d k lo : Nat} {u : St2} (C : tq_C S Y u) (D : tq_D S Y q) (hq : q = 12 * d + k) (hd : d < 6) (hk : k < 12) (hlo : lo = 1 → up = 0) (h : ∀ m, m ≤ 5 → (lo = 1 → m = 5) → post (nI m)) : wpX_rightAfter post u up := by
  obtain ⟨f0, f1, f2, a1, a2, a3, a4, a5, a6, a7, a8, a9, a10, a11, a12, a13, a14, a15, a16, a17, a18, a19, a20, a21, a22, a23, a24⟩ := u
  unfold wpX_rightAfter
  try dsimp only
  have hz : ∀ r, lo = 1 → nI r + up = nI r := by
    intro r z
    rw [hlo z]
    exact nI_add r 0
  refine pk_loop (σ := Nat) (fun n r m => wX_rightAfter_4 post up f0 f1 f2 a1 a2 a3 a4 a5 a6 a7 a8 a9 a10 a11 a12 a13 a14 a15 a16 a17 a18 a19 a20 a21 a22 a23 a24 n (nI m) (nI r)) (fun r m => (d < r → m + 1 ≤ r) ∧ m ≤ r ∧ (lo = 1 → (d < r → m + 1 = r) ∧ (r ≤ d → m = r))) 6 0 0 (by omega) (by omega) ?_ ?_
  · intro n m hm
    exact pk_le 6 6 (fun _ => h m (by omega) (by omega)) (fun z => absurd z (by omega))
  · intro n r m hr hm hw
    refine pk_le 6 r (fun z => absurd z (by omega)) (fun _ => ?_)
    rcases pk_ix (nI r + up) (n := 6) (by decide) with hx | hx | ⟨s, hs, hx⟩
    · have hl : lo ≠ 1 := fun z => by
        rw [hz r z] at hx
        exact nI_pos (by omega) hx
      exact nm_e (br_t hx (nm_r (nI_1 r) (hw m (by omega))))
    · have hl : lo ≠ 1 := fun z => by
        rw [hz r z] at hx
        exact nI_ge hr (by decide) hx
      have h0 : ¬ nI r + up < 0 := by
        intro z
        have z' := tq_lt0 (k := 6) (by decide) z
        rw [Int32.lt_iff_toInt_lt] at z'
        rw [Int32.le_iff_toInt_le] at hx
        omega
      exact nm_e (br_f h0 (br_t hx (nm_r (nI_1 r) (hw m (by omega)))))
    · refine nm_r hx (br_f (nI_pos (by omega)) (br_f (nI_ge (b := 6) hs (by decide)) ?_))
      refine tq_lo0 C hr (tq_lo1 C hs (tq_ra50 C D hq hd hk hr hs (fun m' e1 e2 => hw m' ?_)))
      try dsimp only
      omega
theorem tq_up1 : ∀ i, i < 11 → ¬ (6 : Int32) ≤ nI i - 5 := by decide +kernel
theorem tq_up2 : ∀ i, i < 11 → nI i - 5 + 1 = nI (i + 1) - 5 := by decide +kernel
theorem tq_ss {post : St2 → Prop} {S Y : Nat → Int32} {q d k : Nat} {u : St2} (C : tq_C S Y u) (D : tq_D S Y q) (hq : q = 12 * d + k) (hd : d < 6) (hk : k < 12) (h : post u) : wpX_sendScroll post u := by
  obtain ⟨f0, f1, f2, a1, a2, a3, a4, a5, a6, a7, a8, a9, a10, a11, a12, a13, a14, a15, a16, a17, a18, a19, a20, a21, a22, a23, a24⟩ := u
  unfold wpX_sendScroll
  try dsimp only
  refine tq_ra (lo := 1) C D hq hd hk (fun _ => rfl) (fun m hm hm' => ?_)
  have e : m = 5 := hm' rfl
  subst e
  refine nm_r (e' := nI 6) rfl ?_
  refine pk_loop (σ := Unit) (fun n i _ => wX_sendScroll_13 post f0 f1 f2 a1 a2 a3 a4 a5 a6 a7 a8 a9 a10 a11 a12 a13 a14 a15 a16 a17 a18 a19 a20 a21 a22 a23 a24 n 0 (nI 6) (nI i - 5)) (fun _ _ => True) 11 0 () (by omega) trivial ?_ ?_
  · intro n _ _
    exact br_t (by decide) (br_t (by decide) (br_t (by decide) h))
  · intro n i _ hi _ hw
    refine br_f (tq_up1 i hi) (tq_ra (lo := 0) C D hq hd hk (fun z => absurd z (by decide)) (fun m hm _ => ?_))
    exact br_t (nI_le (by omega) (by decide)) (nm_r (tq_up2 i hi) (hw () trivial))
theorem tq_rc {post : Int32 → Prop} {far : Int32} {S Y : Nat → Int32} {q d k lo : Nat} {u : St2} (C : tq_C S Y u) (D : tq_D S Y q) (hq : q = 12 * d + k) (hd : d < 6) (hk : k < 12) (hlo : lo = 1 → far = 0) (h : ∀ m, m + k ≤ 11 → (lo = 1 → m + k = 11) → post (nI m)) : wpX_rightCells post u (nI d) (nI k) far := by
  obtain ⟨f0, f1, f2, a1, a2, a3, a4, a5, a6, a7, a8, a9, a10, a11, a12, a13, a14, a15, a16, a17, a18, a19, a20, a21, a22, a23, a24⟩ := u
  unfold wpX_rightCells
  try dsimp only
  have hz : ∀ r, lo = 1 → nI r + far = nI r := by
    intro r z
    rw [hlo z]
    exact nI_add r 0
  refine tq_lo0 C hd (tq_lo1 C hd ?_)
  refine pk_loop (σ := Nat) (fun n c m => wX_rightCells_22 post (nI k) far (nI (12 * d)) (nI (144 + 12 * d)) f0 f1 f2 a1 a2 a3 a4 a5 a6 a7 a8 a9 a10 a11 a12 a13 a14 a15 a16 a17 a18 a19 a20 a21 a22 a23 a24 n (nI m) (nI c)) (fun c m => k ≤ c ∧ (k < c → m + k + 1 ≤ c) ∧ m + k ≤ c ∧ (lo = 1 → (k < c → m + k + 1 = c) ∧ (c = k → m = 0))) 12 k 0 (by omega) (by omega) ?_ ?_
  · intro n m hm
    exact pk_le 12 12 (fun _ => h m (by omega) (by omega)) (fun z => absurd z (by omega))
  · intro n c m hc hm hw
    refine pk_le 12 c (fun z => absurd z (by omega)) (fun _ => ?_)
    by_cases hx : nI c + far < nI k
    · have hl : lo ≠ 1 := fun z => by
        rw [hz c z] at hx
        exact nI_nlt hm.1 (by omega) hx
      exact nm_e (br_t hx (br_t rfl (nm_r (e' := nI m) (nI_add m 0) (nm_r (nI_1 c) (hw m (by omega))))))
    · by_cases hy : 12 ≤ nI c + far
      · have hl : lo ≠ 1 := fun z => by
          rw [hz c z] at hy
          exact nI_ge (b := 12) hc (by decide) hy
        exact nm_e (br_f hx (br_t hy (br_t rfl (nm_r (e' := nI m) (nI_add m 0) (nm_r (nI_1 c) (hw m (by omega)))))))
      · rcases pk_ix (nI c + far) (n := 12) (by decide) with hs | hs | ⟨s, hs, hx'⟩
        · exact absurd (tq_lt0 (by omega) hs) hx
        · exact absurd hs hy
        · rw [hx'] at hx hy
          have hks : k ≤ s := Nat.le_of_not_lt (fun z => hx (nI_lt z (by omega)))
          refine nm_r hx' (br_f hx (br_f hy (br_f (by decide) ?_)))
          refine tq_sc C (i := 12 * d + c) (j := 144 + 12 * d + s) (by omega) (by omega) (nI_add _ _) (nI_add _ _) (fun g => ?_) (fun g => ?_)
          · have g' := (D.1 _ _).mp g
            exact br_f (by decide) (nm_r (nI_1 m) (nm_r (nI_1 c) (hw (m + 1) (by omega))))
          · have g' : ¬ (12 * d + c = q ↔ 144 + 12 * d + s = q) := fun z => g ((D.1 _ _).mpr z)
            exact br_t rfl (nm_r (e' := nI m) (nI_add m 0) (nm_r (nI_1 c) (hw m (by omega))))
theorem tq_fa1 : ∀ i, i < 23 → ¬ (12 : Int32) ≤ nI i - 11 := by decide +kernel
theorem tq_fa2 : ∀ i, i < 23 → nI i - 11 + 1 = nI (i + 1) - 11 := by decide +kernel
theorem tq_sh {post : St2 → Prop} {S Y : Nat → Int32} {q d k : Nat} {u : St2} (C : tq_C S Y u) (D : tq_D S Y q) (hq : q = 12 * d + k) (hd : d < 6) (hk : k < 12) (h : post u) : wpX_sendShift post u (nI d) (nI k) := by
  obtain ⟨f0, f1, f2, a1, a2, a3, a4, a5, a6, a7, a8, a9, a10, a11, a12, a13, a14, a15, a16, a17, a18, a19, a20, a21, a22, a23, a24⟩ := u
  unfold wpX_sendShift
  try dsimp only
  refine tq_rc (lo := 1) C D hq hd hk (fun _ => rfl) (fun m hm hm' => ?_)
  have e := hm' rfl
  refine nm_r (e' := nI (m + 3)) (nI_add m 3) ?_
  refine pk_loop (σ := Unit) (fun n i _ => wX_sendShift_17 post (nI d) (nI k) f0 f1 f2 a1 a2 a3 a4 a5 a6 a7 a8 a9 a10 a11 a12 a13 a14 a15 a16 a17 a18 a19 a20 a21 a22 a23 a24 n 0 (nI (m + 3)) (nI i - 11)) (fun _ _ => True) 23 0 () (by omega) trivial ?_ ?_
  · intro n _ _
    exact br_t (by decide) (br_t rfl h)
  · intro n i _ hi _ hw
    refine br_f (tq_fa1 i hi) (tq_rc (lo := 0) C D hq hd hk (fun z => absurd z (by decide)) (fun m' hm' _ => ?_))
    exact br_t (nI_le (by omega) (by omega)) (nm_r (tq_fa2 i hi) (hw () trivial))
theorem tq_se {post : St2 → Prop} {S Y : Nat → Int32} {q d k : Nat} {u : St2} (C : tq_C S Y u) (D : tq_D S Y q) (hq : q = 12 * d + k) (hd : d < 6) (hk : k < 12) (h : post u) : wpX_sendEnd post u (nI d) := by
  obtain ⟨f0, f1, f2, a1, a2, a3, a4, a5, a6, a7, a8, a9, a10, a11, a12, a13, a14, a15, a16, a17, a18, a19, a20, a21, a22, a23, a24⟩ := u
  unfold wpX_sendEnd
  try dsimp only
  refine tq_lo0 C hd (tq_lo1 C hd ?_)
  refine ⟨13, pk_loopD (σ := Unit) (fun n f _ => wX_sendEnd_21 post (nI d) (nI (12 * d)) (nI (144 + 12 * d)) f0 f1 f2 a1 a2 a3 a4 a5 a6 a7 a8 a9 a10 a11 a12 a13 a14 a15 a16 a17 a18 a19 a20 a21 a22 a23 a24 n (nI f) 0) (fun f _ => f ≤ 12) ?_ ?_ 12 () (by omega)⟩
  · intro n _ _
    exact br_t (by decide) (br_t (by decide) h)
  · intro n f _ hf hw
    refine pk_le (f + 1) 0 (fun z => absurd z (by omega)) (fun _ => ?_) rfl rfl (by omega) (by omega)
    refine tq_ie C (i := 12 * d + f) (by omega) ?_ (fun _ => ?_) (fun _ => ?_)
    · rw [nI_add]
      exact nI_pred (12 * d + f)
    · refine br_f (by decide) (nm_r (pk_m1 f) ?_)
      refine tq_ie C (i := 144 + 12 * d + f) (by omega) (nI_add _ _) (fun _ => ?_) (fun z => ?_)
      · exact br_f (by decide) (nm_r (e' := 0) rfl (hw () (by omega)))
      · exact absurd (D.2 (144 + 12 * d + f) (by omega)) z
    · exact br_t rfl (br_t (by decide) h)
end
section
/-! what is sent -/
theorem tq_snd {post A : St2 → Prop} {u : St2} {b : Int32} (h : tq_Rd 1 b u A) (hp : ∀ u', A u' → post u') : wpX_send post u b := by
  obtain ⟨f0, f1, f2, a1, a2, a3, a4, a5, a6, a7, a8, a9, a10, a11, a12, a13, a14, a15, a16, a17, a18, a19, a20, a21, a22, a23, a24⟩ := u
  unfold wpX_send
  try dsimp only
  refine h _ (fun u' h' => ?_)
  obtain ⟨f0', f1', f2', a1', a2', a3', a4', a5', a6', a7', a8', a9', a10', a11', a12', a13', a14', a15', a16', a17', a18', a19', a20', a21', a22', a23', a24'⟩ := u'
  exact hp _ h'
theorem tq_sn {post A : St2 → Prop} {u : St2} {m : Nat} (hm : m < 10) (h : tq_Rd 1 (nI (48 + m)) u A) (hp : ∀ u', A u' → post u') : wpX_sendNumber post u (nI m) := by
  obtain ⟨f0, f1, f2, a1, a2, a3, a4, a5, a6, a7, a8, a9, a10, a11, a12, a13, a14, a15, a16, a17, a18, a19, a20, a21, a22, a23, a24⟩ := u
  unfold wpX_sendNumber
  try dsimp only
  refine pk_lt m 10 (fun _ => ?_) (fun z => absurd z (by omega))
  unfold wX_sendNumber_17
  have e : (48 : Int32) + (nI m - nI m / 10 * 10) = nI (48 + m) := by
    rw [show (10 : Int32) = nI 10 from rfl, pk_rem (by omega) (by decide) (by decide), show (48 : Int32) = nI 48 from rfl, nI_add, Nat.mod_eq_of_lt hm]
  rw [e]
  refine ⟨by decide, tq_snd h (fun u' h' => ?_)⟩
  obtain ⟨f0', f1', f2', a1', a2', a3', a4', a5', a6', a7', a8', a9', a10', a11', a12', a13', a14', a15', a16', a17', a18', a19', a20', a21', a22', a23', a24'⟩ := u'
  exact hp _ h'
theorem tq_upid {f : Nat → Int32} {j : Nat} {v : Int32} (h : f j = v) : upd f j v = f := by
  funext i
  by_cases e : i = j
  · rw [e, pk_us, h]
  · rw [pk_un e]
theorem tq_10 : tq_ts 1 0 := Or.inr ⟨rfl, rfl⟩
theorem tq_b59z {post : St2 → Prop} {x2 x3 x4 : Int32} {f0 f1 f2 : Int32} {a1 a2 a3 a4 a5 a6 a7 a8 a9 a10 a11 a12 a13 a14 a15 a16 a17 a18 a19 a20 a21 a22 a23 a24 : Nat → Int32} (h : post (f0, f1, f2, a1, a2, a3, a4, a5, a6, a7, a8, a9, a10, a11, a12, a13, a14, a15, a16, a17, a18, a19, a20, a21, a22, a23, a24)) : ∃ fu59 : Nat, wX_sendBridge_59 post x2 x3 x4 f0 f1 f2 a1 a2 a3 a4 a5 a6 a7 a8 a9 a10 a11 a12 a13 a14 a15 a16 a17 a18 a19 a20 a21 a22 a23 a24 fu59 0 x4 := by
  have h105 : ∃ fu105 : Nat, wX_sendBridge_105 post x2 x3 0 fu105 x4 f0 f1 f2 a1 a2 a3 a4 a5 a6 a7 a8 a9 a10 a11 a12 a13 a14 a15 a16 a17 a18 a19 a20 a21 a22 a23 a24 := ⟨1, br_c (fun _ => h) (fun _ => br_t rfl h)⟩
  exact ⟨1, br_c (fun _ => h105) (fun _ => br_t rfl h105)⟩
theorem tq_b105 {post : St2 → Prop} {qu cn n0 n1 : Int32} {o : tq_R} {S Y : Nat → Int32} {k : Nat} (hk : k < 11) (D : tq_D S Y k) (hp : ∀ u', tq_K 1 0 (0, qu, cn, n0, n1, nI 0, nI k, 0, 0, 0) o S Y u' → post u') : ∀ n c, c ≤ k → k - c < n → ∀ (f0 f1 f2 : Int32) (a1 a2 a3 a4 a5 a6 a7 a8 a9 a10 a11 a12 a13 a14 a15 a16 a17 a18 a19 a20 a21 a22 a23 a24 : Nat → Int32), tq_K 1 0 (0, qu, cn, n0, n1, nI 0, nI c, 0, 0, 0) o S Y (f0, f1, f2, a1, a2, a3, a4, a5, a6, a7, a8, a9, a10, a11, a12, a13, a14, a15, a16, a17, a18, a19, a20, a21, a22, a23, a24) → wX_sendBridge_105 post (nI k) (nI (12 * 0)) 1 n (nI c) f0 f1 f2 a1 a2 a3 a4 a5 a6 a7 a8 a9 a10 a11 a12 a13 a14 a15 a16 a17 a18 a19 a20 a21 a22 a23 a24 := by
  intro n
  induction n with
  | zero => intro c _ h; exact absurd h (by omega)
  | succ n ih =>
    intro c hc hn f0 f1 f2 a1 a2 a3 a4 a5 a6 a7 a8 a9 a10 a11 a12 a13 a14 a15 a16 a17 a18 a19 a20 a21 a22 a23 a24 h
    refine pk_le k c (fun z => ?_) (fun z => ?_)
    · have e : c = k := by omega
      subst e
      exact hp _ h
    · have hs : a1 (nI (12 * 0) + nI c).toNatClampNeg = nI 32 := by
        rw [nI_add, nI_clamp (by omega), h.2.2.2.2.2.2.1 _ (by omega)]
        exact (D.2 _ (by omega)).1
      rw [hs]
      refine br_f (by decide) ⟨pk_in (12 * 0 + c) 288 (by omega) (nI_add _ _), ?_⟩
      refine tq_snd (tq_sign tq_10 (b := 32) (r := 0) (c := c) (by decide) (by decide) (by decide) (by omega) (by decide) h) (fun u' h' => ?_)
      rw [tq_upid (show S _ = nI 32 from (D.2 _ (by omega)).1), tq_upid (show Y _ = 0 from (D.2 _ (by omega)).2)] at h'
      obtain ⟨f0', f1', f2', a1', a2', a3', a4', a5', a6', a7', a8', a9', a10', a11', a12', a13', a14', a15', a16', a17', a18', a19', a20', a21', a22', a23', a24'⟩ := u'
      exact nm_r (nI_1 c) (ih (c + 1) (by omega) (by omega) _ _ _ _ _ _ _ _ _ _ _ _ _ _ _ _ _ _ _ _ _ _ _ _ _ _ _ h')
theorem tq_brg {post : St2 → Prop} {qu cn n0 n1 : Int32} {o : tq_R} {S Y : Nat → Int32} {q d k : Nat} {u : St2} (K : tq_K 1 0 (0, qu, cn, n0, n1, nI 0, nI 0, 0, 0, 0) o S Y u) (D : tq_D S Y q) (hq : q = 12 * d + k) (hd : d < 6) (hk : k < 11) (hp : ∀ co u', (co = 0 ∧ ¬ (d = 0 ∧ 0 < k ∧ k ≤ 3)) ∨ (co = k ∧ d = 0) → tq_K 1 0 (0, qu, cn, n0, n1, nI 0, nI co, 0, 0, 0) o S Y u' → post u') : wpX_sendBridge post u (nI d) (nI k) := by
  obtain ⟨f0, f1, f2, a1, a2, a3, a4, a5, a6, a7, a8, a9, a10, a11, a12, a13, a14, a15, a16, a17, a18, a19, a20, a21, a22, a23, a24⟩ := u
  obtain ⟨e20, e21, e22, e23, e23', e4, e5, e6, e7, e10⟩ := tq_inj K.1
  have C := K.2.2
  unfold wpX_sendBridge
  try dsimp only
  refine tq_lo0 C hd (nm_r e5 ?_)
  by_cases h0 : d = 0
  · subst h0
    refine br_t e4 (br_t e6 (pk_le k 0 (fun z => ?_) (fun z => pk_lt 3 k (fun z2 => ?_) (fun z2 => ?_) rfl (pk_sub (Nat.zero_le k)) (by omega) (by omega)) rfl rfl (by omega) (by omega)))
    · exact tq_b59z (hp 0 _ (by omega) K)
    · exact tq_b59z (hp 0 _ (by omega) K)
    · have hqk : q = k := by omega
      subst hqk
      refine pk_loop (σ := Unit) (fun n c _ => wX_sendBridge_59 post (nI q) (nI (12 * 0)) (nI 0) f0 f1 f2 a1 a2 a3 a4 a5 a6 a7 a8 a9 a10 a11 a12 a13 a14 a15 a16 a17 a18 a19 a20 a21 a22 a23 a24 n 1 (nI c)) (fun _ _ => True) q 0 () (by omega) trivial ?_ ?_
      · intro n _ _
        refine pk_le q q (fun _ => ?_) (fun z => absurd z (by omega))
        exact ⟨q + 1, tq_b105 hk D (fun u' h' => hp q u' (by omega) h') (q + 1) 0 (by omega) (by omega) _ _ _ _ _ _ _ _ _ _ _ _ _ _ _ _ _ _ _ _ _ _ _ _ _ _ _ K⟩
      · intro n c _ hc _ hw
        have hs : a2 (nI (12 * 0) + nI c).toNatClampNeg = a7 1 := by
          rw [nI_add, nI_clamp (by omega), C.2.2.2.2.2 _ (by omega), e7]
          exact (D.2 _ (by omega)).2
        exact pk_le q c (fun z => absurd z (by omega)) (fun _ => br_f (by decide) ⟨pk_in (12 * 0 + c) 288 (by omega) (nI_add _ _), br_t hs (nm_r (nI_1 c) (hw () trivial))⟩)
  · refine br_f ?_ (tq_b59z (hp 0 _ (by omega) K))
    rw [e4]
    exact fun z => h0 ((nI_eq (by decide) (by omega)).mp z).symm
theorem tq_one {post : St2 → Prop} {qu cn n0 n1 wa pe ins : Int32} {o : tq_R} {S Y : Nat → Int32} {r c m : Nat} {u : St2} (hr : r < 128) (hc : c < 100) (hm : m < 8) (hm0 : m ≠ 0) (K : tq_K 1 0 (0, qu, cn, n0, n1, nI r, nI c, wa, pe, ins) o S Y u) (hp : ∀ u', tq_K 1 0 (0, 0, 1, nI (m + 1), n1, nI r, nI (min (c + (m + 1)) 11), 0, pe, ins) o S Y u' → post u') : wpX_sendOne post u (nI (m + 1)) 67 := by
  obtain ⟨f0, f1, f2, a1, a2, a3, a4, a5, a6, a7, a8, a9, a10, a11, a12, a13, a14, a15, a16, a17, a18, a19, a20, a21, a22, a23, a24⟩ := u
  unfold wpX_sendOne
  try dsimp only
  refine tq_snd (tq_esc tq_10 K) (fun u' h' => ?_)
  obtain ⟨f0', f1', f2', a1', a2', a3', a4', a5', a6', a7', a8', a9', a10', a11', a12', a13', a14', a15', a16', a17', a18', a19', a20', a21', a22', a23', a24'⟩ := u'
  refine tq_snd (tq_lb tq_10 h') (fun u' h' => ?_)
  obtain ⟨f0', f1', f2', a1', a2', a3', a4', a5', a6', a7', a8', a9', a10', a11', a12', a13', a14', a15', a16', a17', a18', a19', a20', a21', a22', a23', a24'⟩ := u'
  refine pk_eq (m + 1) 1 (fun z => absurd z (by omega)) (fun _ => ?_) rfl rfl (by omega) (by omega)
  refine tq_sn (by omega) (tq_dig tq_10 (by omega) (by decide) (by decide) h') (fun u' h' => ?_)
  obtain ⟨f0', f1', f2', a1', a2', a3', a4', a5', a6', a7', a8', a9', a10', a11', a12', a13', a14', a15', a16', a17', a18', a19', a20', a21', a22', a23', a24'⟩ := u'
  try dsimp only
  unfold wX_sendOne_22
  refine tq_snd (tq_Cc tq_10 hr hc (by omega) h') (fun u' h' => ?_)
  obtain ⟨f0', f1', f2', a1', a2', a3', a4', a5', a6', a7', a8', a9', a10', a11', a12', a13', a14', a15', a16', a17', a18', a19', a20', a21', a22', a23', a24'⟩ := u'
  exact hp _ h'
theorem tq_km : ∀ k, k < 9 → ¬ nI k = nI 0 - 1 := by decide +kernel
theorem tq_mv {post : St2 → Prop} {qu cn n0 n1 : Int32} {o : tq_R} {S Y : Nat → Int32} {d k co : Nat} {u : St2} (hd : d < 6) (hk : k < 9) (hco : (co = 0 ∧ ¬ (d = 0 ∧ 0 < k ∧ k ≤ 3)) ∨ (co = k ∧ d = 0)) (K : tq_K 1 0 (0, qu, cn, n0, n1, nI 0, nI co, 0, 0, 0) o S Y u) (hp : ∀ qu cn n0 n1 u', tq_K 1 0 (0, qu, cn, n0, n1, nI d, nI k, 0, 0, 0) o S Y u' → post u') : wpX_sendMove post u (nI d) (nI k) := by
  obtain ⟨f0, f1, f2, a1, a2, a3, a4, a5, a6, a7, a8, a9, a10, a11, a12, a13, a14, a15, a16, a17, a18, a19, a20, a21, a22, a23, a24⟩ := u
  obtain ⟨e20, e21, e22, e23, e23', e4, e5, e6, e7, e10⟩ := tq_inj K.1
  unfold wpX_sendMove
  try dsimp only
  refine nm_r e5 ?_
  by_cases h0 : d = 0
  · subst h0
    refine br_t e4 (br_t e6 ?_)
    refine br_f (by decide) (pk_eq co k (fun z => ?_) (fun z => ?_) rfl rfl (by omega) (by omega))
    · subst z
      exact hp _ _ _ _ _ K
    · have hc0 : co = 0 := by omega
      subst hc0
      refine br_f (by decide) (pk_eq k 0 (fun z2 => absurd z2.symm z) (fun _ => ?_) rfl rfl (by omega) (by omega))
      refine br_f (by decide) (br_f (tq_km k hk) ?_)
      refine br_f (by decide) (pk_le k 0 (fun z2 => absurd z2 (by omega)) (fun _ => ?_) rfl rfl (by omega) (by omega))
      obtain ⟨m, rfl⟩ : ∃ m, k = m + 1 := ⟨k - 1, by omega⟩
      rw [pk_sub (Nat.zero_le (m + 1))]
      refine tq_one (r := 0) (c := 0) (m := m) (by decide) (by decide) (by omega) (by omega) K (fun u' h' => ?_)
      obtain ⟨f0', f1', f2', a1', a2', a3', a4', a5', a6', a7', a8', a9', a10', a11', a12', a13', a14', a15', a16', a17', a18', a19', a20', a21', a22', a23', a24'⟩ := u'
      rw [show min (0 + (m + 1)) 11 = m + 1 by omega] at h'
      exact hp _ _ _ _ _ h'
  · have hne : ¬ a4 1 = nI d := by
      rw [e4]
      exact fun z => h0 ((nI_eq (by decide) (by omega)).mp z).symm
    have hc0 : co = 0 := by omega
    subst hc0
    refine br_f hne ?_
    unfold wX_sendMove_30
    refine br_t rfl (br_t rfl (br_t rfl (br_t rfl (br_t rfl ?_))))
    rw [nI_1, nI_1]
    refine tq_snd (tq_esc tq_10 K) (fun u' h' => ?_)
    obtain ⟨f0', f1', f2', a1', a2', a3', a4', a5', a6', a7', a8', a9', a10', a11', a12', a13', a14', a15', a16', a17', a18', a19', a20', a21', a22', a23', a24'⟩ := u'
    refine tq_snd (tq_lb tq_10 h') (fun u' h' => ?_)
    obtain ⟨f0', f1', f2', a1', a2', a3', a4', a5', a6', a7', a8', a9', a10', a11', a12', a13', a14', a15', a16', a17', a18', a19', a20', a21', a22', a23', a24'⟩ := u'
    refine tq_sn (by omega) (tq_dig tq_10 (by omega) (by decide) (by decide) h') (fun u' h' => ?_)
    obtain ⟨f0', f1', f2', a1', a2', a3', a4', a5', a6', a7', a8', a9', a10', a11', a12', a13', a14', a15', a16', a17', a18', a19', a20', a21', a22', a23', a24'⟩ := u'
    refine tq_snd (tq_next tq_10 h') (fun u' h' => ?_)
    obtain ⟨f0', f1', f2', a1', a2', a3', a4', a5', a6', a7', a8', a9', a10', a11', a12', a13', a14', a15', a16', a17', a18', a19', a20', a21', a22', a23', a24'⟩ := u'
    refine tq_sn (by omega) (tq_dig2 tq_10 (by omega) (by decide) (by decide) h') (fun u' h' => ?_)
    obtain ⟨f0', f1', f2', a1', a2', a3', a4', a5', a6', a7', a8', a9', a10', a11', a12', a13', a14', a15', a16', a17', a18', a19', a20', a21', a22', a23', a24'⟩ := u'
    refine tq_snd (tq_H tq_10 (by omega) (by omega) h') (fun u' h' => ?_)
    obtain ⟨f0', f1', f2', a1', a2', a3', a4', a5', a6', a7', a8', a9', a10', a11', a12', a13', a14', a15', a16', a17', a18', a19', a20', a21', a22', a23', a24'⟩ := u'
    rw [show min d 5 = d by omega, show min k 11 = k by omega] at h'
    exact hp _ _ _ _ _ h'
theorem tq_sp1 {post : St2 → Prop} {qu cn n0 n1 ro co : Int32} {o : tq_R} {S Y : Nat → Int32} {u : St2} (K : tq_K 1 0 (0, qu, cn, n0, n1, ro, co, 0, 0, 0) o S Y u) (hp : ∀ qu cn n0 n1 u', tq_K 1 0 (0, qu, cn, n0, n1, ro, co, 0, 1, 0) o S Y u' → post u') : wpX_sendPen post u 1 := by
  obtain ⟨f0, f1, f2, a1, a2, a3, a4, a5, a6, a7, a8, a9, a10, a11, a12, a13, a14, a15, a16, a17, a18, a19, a20, a21, a22, a23, a24⟩ := u
  obtain ⟨e20, e21, e22, e23, e23', e4, e5, e6, e7, e10⟩ := tq_inj K.1
  unfold wpX_sendPen
  try dsimp only
  refine nm_r e7 (br_f (by decide) ?_)
  refine tq_snd (tq_esc tq_10 K) (fun u' h' => ?_)
  obtain ⟨f0', f1', f2', a1', a2', a3', a4', a5', a6', a7', a8', a9', a10', a11', a12', a13', a14', a15', a16', a17', a18', a19', a20', a21', a22', a23', a24'⟩ := u'
  refine tq_snd (tq_lb tq_10 h') (fun u' h' => ?_)
  obtain ⟨f0', f1', f2', a1', a2', a3', a4', a5', a6', a7', a8', a9', a10', a11', a12', a13', a14', a15', a16', a17', a18', a19', a20', a21', a22', a23', a24'⟩ := u'
  refine ⟨4, ?_⟩
  refine br_f (by decide) (br_f (by decide) (nm_e (br_f (by decide) (br_t rfl ?_))))
  refine br_f (by decide) ?_
  unfold wpX_penNumber wX_sendPen_99
  refine tq_sn (m := 1) (by decide) (tq_dig tq_10 (d := 1) (by decide) (by decide) (by decide) h') (fun u' h' => ?_)
  obtain ⟨f0', f1', f2', a1', a2', a3', a4', a5', a6', a7', a8', a9', a10', a11', a12', a13', a14', a15', a16', a17', a18', a19', a20', a21', a22', a23', a24'⟩ := u'
  refine nm_e ?_
  refine br_f (by decide) (br_f (by decide) (nm_e (br_t (by decide) (nm_e ?_))))
  refine br_f (by decide) (br_f (by decide) (nm_e (br_t (by decide) (nm_e ?_))))
  refine br_t (by decide) ?_
  unfold wX_sendPen_115
  refine tq_snd (tq_m1 tq_10 h') (fun u' h' => ?_)
  obtain ⟨f0', f1', f2', a1', a2', a3', a4', a5', a6', a7', a8', a9', a10', a11', a12', a13', a14', a15', a16', a17', a18', a19', a20', a21', a22', a23', a24'⟩ := u'
  exact hp _ _ _ _ _ h'
theorem tq_sp2 {post : St2 → Prop} {qu cn n0 n1 ro co : Int32} {o : tq_R} {S Y : Nat → Int32} {u : St2} (K : tq_K 1 0 (0, qu, cn, n0, n1, ro, co, 0, 0, 0) o S Y u) (hp : ∀ qu cn n0 n1 u', tq_K 1 0 (0, qu, cn, n0, n1, ro, co, 0, 2, 0) o S Y u' → post u') : wpX_sendPen post u 2 := by
  obtain ⟨f0, f1, f2, a1, a2, a3, a4, a5, a6, a7, a8, a9, a10, a11, a12, a13, a14, a15, a16, a17, a18, a19, a20, a21, a22, a23, a24⟩ := u
  obtain ⟨e20, e21, e22, e23, e23', e4, e5, e6, e7, e10⟩ := tq_inj K.1
  unfold wpX_sendPen
  try dsimp only
  refine nm_r e7 (br_f (by decide) ?_)
  refine tq_snd (tq_esc tq_10 K) (fun u' h' => ?_)
  obtain ⟨f0', f1', f2', a1', a2', a3', a4', a5', a6', a7', a8', a9', a10', a11', a12', a13', a14', a15', a16', a17', a18', a19', a20', a21', a22', a23', a24'⟩ := u'
  refine tq_snd (tq_lb tq_10 h') (fun u' h' => ?_)
  obtain ⟨f0', f1', f2', a1', a2', a3', a4', a5', a6', a7', a8', a9', a10', a11', a12', a13', a14', a15', a16', a17', a18', a19', a20', a21', a22', a23', a24'⟩ := u'
  refine ⟨4, ?_⟩
  refine br_f (by decide) (br_f (by decide) (nm_e (br_t (by decide) (nm_e ?_))))
  refine br_f (by decide) (br_f (by decide) (nm_e (br_f (by decide) (br_t rfl ?_))))
  refine br_f (by decide) ?_
  unfold wpX_penNumber wX_sendPen_99
  refine tq_sn (m := 4) (by decide) (tq_dig tq_10 (d := 4) (by decide) (by decide) (by decide) h') (fun u' h' => ?_)
  obtain ⟨f0', f1', f2', a1', a2', a3', a4', a5', a6', a7', a8', a9', a10', a11', a12', a13', a14', a15', a16', a17', a18', a19', a20', a21', a22', a23', a24'⟩ := u'
  refine nm_e ?_
  refine br_f (by decide) (br_f (by decide) (nm_e (br_t (by decide) (nm_e ?_))))
  refine br_t (by decide) ?_
  unfold wX_sendPen_115
  refine tq_snd (tq_m4 tq_10 h') (fun u' h' => ?_)
  obtain ⟨f0', f1', f2', a1', a2', a3', a4', a5', a6', a7', a8', a9', a10', a11', a12', a13', a14', a15', a16', a17', a18', a19', a20', a21', a22', a23', a24'⟩ := u'
  exact hp _ _ _ _ _ h'
theorem tq_sp4 {post : St2 → Prop} {qu cn n0 n1 ro co : Int32} {o : tq_R} {S Y : Nat → Int32} {u : St2} (K : tq_K 1 0 (0, qu, cn, n0, n1, ro, co, 0, 0, 0) o S Y u) (hp : ∀ qu cn n0 n1 u', tq_K 1 0 (0, qu, cn, n0, n1, ro, co, 0, 4, 0) o S Y u' → post u') : wpX_sendPen post u 4 := by
  obtain ⟨f0, f1, f2, a1, a2, a3, a4, a5, a6, a7, a8, a9, a10, a11, a12, a13, a14, a15, a16, a17, a18, a19, a20, a21, a22, a23, a24⟩ := u
  obtain ⟨e20, e21, e22, e23, e23', e4, e5, e6, e7, e10⟩ := tq_inj K.1
  unfold wpX_sendPen
  try dsimp only
  refine nm_r e7 (br_f (by decide) ?_)
  refine tq_snd (tq_esc tq_10 K) (fun u' h' => ?_)
  obtain ⟨f0', f1', f2', a1', a2', a3', a4', a5', a6', a7', a8', a9', a10', a11', a12', a13', a14', a15', a16', a17', a18', a19', a20', a21', a22', a23', a24'⟩ := u'
  refine tq_snd (tq_lb tq_10 h') (fun u' h' => ?_)
  obtain ⟨f0', f1', f2', a1', a2', a3', a4', a5', a6', a7', a8', a9', a10', a11', a12', a13', a14', a15', a16', a17', a18', a19', a20', a21', a22', a23', a24'⟩ := u'
  refine ⟨4, ?_⟩
  refine br_f (by decide) (br_f (by decide) (nm_e (br_t (by decide) (nm_e ?_))))
  refine br_f (by decide) (br_f (by decide) (nm_e (br_t (by decide) (nm_e ?_))))
  refine br_f (by decide) (br_f (by decide) (nm_e (br_f (by decide) (br_t rfl ?_))))
  refine br_f (by decide) ?_
  unfold wpX_penNumber wX_sendPen_99
  refine tq_sn (m := 7) (by decide) (tq_dig tq_10 (d := 7) (by decide) (by decide) (by decide) h') (fun u' h' => ?_)
  obtain ⟨f0', f1', f2', a1', a2', a3', a4', a5', a6', a7', a8', a9', a10', a11', a12', a13', a14', a15', a16', a17', a18', a19', a20', a21', a22', a23', a24'⟩ := u'
  refine nm_e ?_
  refine br_t (by decide) ?_
  unfold wX_sendPen_115
  refine tq_snd (tq_m7 tq_10 h') (fun u' h' => ?_)
  obtain ⟨f0', f1', f2', a1', a2', a3', a4', a5', a6', a7', a8', a9', a10', a11', a12', a13', a14', a15', a16', a17', a18', a19', a20', a21', a22', a23', a24'⟩ := u'
  exact hp _ _ _ _ _ h'
theorem tq_sp {post : St2 → Prop} {qu cn n0 n1 ro co y : Int32} {o : tq_R} {S Y : Nat → Int32} {u : St2} (hy : y = 1 ∨ y = 2 ∨ y = 4) (K : tq_K 1 0 (0, qu, cn, n0, n1, ro, co, 0, 0, 0) o S Y u) (hp : ∀ qu cn n0 n1 u', tq_K 1 0 (0, qu, cn, n0, n1, ro, co, 0, y, 0) o S Y u' → post u') : wpX_sendPen post u y := by
  rcases hy with rfl | rfl | rfl
  · exact tq_sp1 K hp
  · exact tq_sp2 K hp
  · exact tq_sp4 K hp
end
section
/-- both terminals show the same -/
def tq_E (S Y : Nat → Int32) : Prop := ∀ i, i < 72 → S i = S (144 + i) ∧ Y i = Y (144 + i)
theorem tq_row0 {post : St2 → Prop} {S Y : Nat → Int32} {r : Nat} {u : St2} (C : tq_C S Y u) (hr : r < 6) (h1 : ∀ c, c < 12 → S (12 * r + c) = S (144 + 12 * r + c) ∧ Y (12 * r + c) = Y (144 + 12 * r + c)) (h : post u) : wpX_sendRow post u (nI r) := by
  obtain ⟨f0, f1, f2, a1, a2, a3, a4, a5, a6, a7, a8, a9, a10, a11, a12, a13, a14, a15, a16, a17, a18, a19, a20, a21, a22, a23, a24⟩ := u
  unfold wpX_sendRow
  try dsimp only
  exact tq_fs (e := 12) C hr (by omega) h1 (fun z => absurd z (by omega)) (br_t rfl h)
theorem tq_Erow {S Y : Nat → Int32} {r : Nat} (E : tq_E S Y) (hr : r < 6) : ∀ c, c < 12 → S (12 * r + c) = S (144 + 12 * r + c) ∧ Y (12 * r + c) = Y (144 + 12 * r + c) := by
  intro c hc
  rw [show 144 + 12 * r + c = 144 + (12 * r + c) by omega]
  exact E _ (by omega)
theorem tq_r34 {post : St2 → Prop} {S Y : Nat → Int32} {r : Nat} {f0 f1 f2 : Int32} {a1 a2 a3 a4 a5 a6 a7 a8 a9 a10 a11 a12 a13 a14 a15 a16 a17 a18 a19 a20 a21 a22 a23 a24 : Nat → Int32} (C : tq_C S Y (f0, f1, f2, a1, a2, a3, a4, a5, a6, a7, a8, a9, a10, a11, a12, a13, a14, a15, a16, a17, a18, a19, a20, a21, a22, a23, a24)) (E : tq_E S Y) (hr : r < 6) (h : post (f0, f1, f2, a1, a2, a3, a4, a5, a6, a7, a8, a9, a10, a11, a12, a13, a14, a15, a16, a17, a18, a19, a20, a21, a22, a23, a24)) : ∀ n c, c ≤ 12 → 12 - c < n → wX_sendRow_34 post (nI r) (nI (12 * r)) n (nI c) f0 f1 f2 a1 a2 a3 a4 a5 a6 a7 a8 a9 a10 a11 a12 a13 a14 a15 a16 a17 a18 a19 a20 a21 a22 a23 a24 := by
  intro n c hc hn
  exact loop_i (σ := Unit) (fun n c _ => wX_sendRow_34 post (nI r) (nI (12 * r)) n (nI c) f0 f1 f2 a1 a2 a3 a4 a5 a6 a7 a8 a9 a10 a11 a12 a13 a14 a15 a16 a17 a18 a19 a20 a21 a22 a23 a24) (fun _ _ => True) 12
    (fun n _ _ => pk_le 12 12 (fun _ => h) (fun z => absurd z (by omega)))
    (fun n c _ hc _ hw => pk_le 12 c (fun z => absurd z (by omega)) (fun _ => tq_lo1 C hr (tq_sc C (i := 12 * r + c) (j := 144 + 12 * r + c) (by omega) (by omega) (nI_add _ _) (nI_add _ _) (fun _ => br_f (by decide) (nm_r (nI_1 c) (hw () trivial))) (fun z => absurd (tq_Erow E hr c hc) z))))
    n c () hc hn trivial
theorem tq_row1 {post : St2 → Prop} {qu cn n0 n1 y : Int32} {o : tq_R} {S Y : Nat → Int32} {q d k b : Nat} {u : St2} (hd : d < 6) (hk : k < 9) (hb1 : 32 ≤ b) (hb2 : b < 127) (hy : y = 1 ∨ y = 2 ∨ y = 4) (hq : q = 12 * d + k) (K : tq_K 1 0 (0, qu, cn, n0, n1, nI 0, nI 0, 0, 0, 0) o S Y u) (D : tq_D S Y q) (hS : S q = nI b) (hY : Y q = y) (hp : ∀ u' S' Y', tq_C S' Y' u' → tq_E S' Y' → post u') : wpX_sendRow post u (nI d) := by
  obtain ⟨f0, f1, f2, a1, a2, a3, a4, a5, a6, a7, a8, a9, a10, a11, a12, a13, a14, a15, a16, a17, a18, a19, a20, a21, a22, a23, a24⟩ := u
  have C := K.2.2
  have hne : ¬ (S (12 * d + k) = S (144 + 12 * d + k) ∧ Y (12 * d + k) = Y (144 + 12 * d + k)) := by
    intro z
    have z' := (D.1 _ _).mp z
    omega
  have E : tq_E (upd S (144 * 1 + 12 * d + k) (nI b)) (upd Y (144 * 1 + 12 * d + k) y) := by
    intro i hi
    by_cases e : i = q
    · rw [show 144 + i = 144 * 1 + 12 * d + k by omega, pk_us, pk_us, pk_un (by omega), pk_un (by omega), e]
      exact ⟨hS, hY⟩
    · rw [pk_un (by omega), pk_un (by omega), pk_un (by omega), pk_un (by omega)]
      exact (D.1 _ _).mpr (by omega)
  have hpe : y.toInt8.toInt32 = y := by rcases hy with rfl | rfl | rfl <;> decide
  unfold wpX_sendRow
  try dsimp only
  refine tq_fs (e := k) C hd (by omega) (fun c hc => (D.1 _ _).mpr (by omega)) (fun _ => hne) ?_
  refine pk_eq k 12 (fun z => absurd z (by omega)) (fun _ => ?_)
  refine tq_sh C D hq hd (by omega) ?_
  try dsimp only
  refine tq_se C D hq hd (by omega) ?_
  try dsimp only
  refine tq_lo0 C hd ⟨13, ?_⟩
  refine pk_le 12 k (fun z => absurd z (by omega)) (fun _ => tq_lo1 C hd (tq_sc C (i := 12 * d + k) (j := 144 + 12 * d + k) (by omega) (by omega) (nI_add _ _) (nI_add _ _) (fun z => absurd z hne) (fun _ => br_t rfl ?_)))
  refine tq_brg K D hq hd (by omega) (fun co u' hco h' => ?_)
  obtain ⟨f0', f1', f2', a1', a2', a3', a4', a5', a6', a7', a8', a9', a10', a11', a12', a13', a14', a15', a16', a17', a18', a19', a20', a21', a22', a23', a24'⟩ := u'
  refine tq_mv hd hk hco h' (fun qu cn n0 n1 u' h' => ?_)
  obtain ⟨f0', f1', f2', a1', a2', a3', a4', a5', a6', a7', a8', a9', a10', a11', a12', a13', a14', a15', a16', a17', a18', a19', a20', a21', a22', a23', a24'⟩ := u'
  have g2 : a2' (nI (12 * d) + nI k).toNatClampNeg = y := by
    rw [nI_add, nI_clamp (by omega), ← hq, h'.2.2.2.2.2.2.2 _ (by omega), hY]
  try dsimp only
  rw [g2]
  refine ⟨pk_in (12 * d + k) 288 (by omega) (nI_add _ _), tq_sp hy h' (fun qu cn n0 n1 u' h' => ?_)⟩
  obtain ⟨f0', f1', f2', a1', a2', a3', a4', a5', a6', a7', a8', a9', a10', a11', a12', a13', a14', a15', a16', a17', a18', a19', a20', a21', a22', a23', a24'⟩ := u'
  have g1 : a1' (nI (12 * d) + nI k).toNatClampNeg = nI b := by
    rw [nI_add, nI_clamp (by omega), ← hq, h'.2.2.2.2.2.2.1 _ (by omega), hS]
  try dsimp only
  rw [g1]
  refine ⟨pk_in (12 * d + k) 288 (by omega) (nI_add _ _), tq_snd (tq_sign tq_10 (b := b) (r := d) (c := k) hb1 hb2 hd (by omega) hpe h') (fun u' h' => ?_)⟩
  obtain ⟨f0', f1', f2', a1', a2', a3', a4', a5', a6', a7', a8', a9', a10', a11', a12', a13', a14', a15', a16', a17', a18', a19', a20', a21', a22', a23', a24'⟩ := u'
  exact nm_r (nI_1 k) (tq_r34 h'.2.2 E hd (hp _ _ _ h'.2.2 E) 12 (k + 1) (by omega) (by omega))
theorem tq_rf0 {post : Int32 → St2 → Prop} {x1 : Int32} {S Y : Nat → Int32} {f0 f1 f2 : Int32} {a1 a2 a3 a4 a5 a6 a7 a8 a9 a10 a11 a12 a13 a14 a15 a16 a17 a18 a19 a20 a21 a22 a23 a24 : Nat → Int32} (C : tq_C S Y (f0, f1, f2, a1, a2, a3, a4, a5, a6, a7, a8, a9, a10, a11, a12, a13, a14, a15, a16, a17, a18, a19, a20, a21, a22, a23, a24)) (E : tq_E S Y) (hp : ∀ u', post x1 u') : ∀ n r, r ≤ 6 → 6 - r < n → wX_refresh_15 post x1 n (nI r) f0 f1 f2 a1 a2 a3 a4 a5 a6 a7 a8 a9 a10 a11 a12 a13 a14 a15 a16 a17 a18 a19 a20 a21 a22 a23 a24 := by
  intro n r hr hn
  exact loop_i (σ := Unit) (fun n r _ => wX_refresh_15 post x1 n (nI r) f0 f1 f2 a1 a2 a3 a4 a5 a6 a7 a8 a9 a10 a11 a12 a13 a14 a15 a16 a17 a18 a19 a20 a21 a22 a23 a24) (fun _ _ => True) 6
    (fun n _ _ => pk_le 6 6 (fun _ => hp _) (fun z => absurd z (by omega)))
    (fun n r _ hr _ hw => pk_le 6 r (fun z => absurd z (by omega)) (fun _ => tq_row0 C hr (tq_Erow E hr) (nm_r (nI_1 r) (hw () trivial))))
    n r () hr hn trivial
theorem tq_rf {post : Int32 → St2 → Prop} {qu cn n0 n1 y : Int32} {o : tq_R} {S Y : Nat → Int32} {q d k b : Nat} {u : St2} (hd : d < 6) (hk : k < 9) (hb1 : 32 ≤ b) (hb2 : b < 127) (hy : y = 1 ∨ y = 2 ∨ y = 4) (hq : q = 12 * d + k) (K : tq_K 1 0 (0, qu, cn, n0, n1, nI 0, nI 0, 0, 0, 0) o S Y u) (D : tq_D S Y q) (hS : S q = nI b) (hY : Y q = y) (hp : ∀ u', post 1 u') : wpX_refresh post u := by
  obtain ⟨f0, f1, f2, a1, a2, a3, a4, a5, a6, a7, a8, a9, a10, a11, a12, a13, a14, a15, a16, a17, a18, a19, a20, a21, a22, a23, a24⟩ := u
  have C := K.2.2
  have main : ∀ n r, r ≤ d → 6 - r < n → wX_refresh_15 post 1 n (nI r) f0 f1 f2 a1 a2 a3 a4 a5 a6 a7 a8 a9 a10 a11 a12 a13 a14 a15 a16 a17 a18 a19 a20 a21 a22 a23 a24 := by
    intro n
    induction n with
    | zero => intro r _ h; exact absurd h (by omega)
    | succ n ih =>
      intro r hr hn
      refine pk_le 6 r (fun z => absurd z (by omega)) (fun _ => ?_)
      by_cases e : r = d
      · subst e
        refine tq_row1 hd hk hb1 hb2 hy hq K D hS hY (fun u' S' Y' C' E' => ?_)
        obtain ⟨f0', f1', f2', a1', a2', a3', a4', a5', a6', a7', a8', a9', a10', a11', a12', a13', a14', a15', a16', a17', a18', a19', a20', a21', a22', a23', a24'⟩ := u'
        exact nm_r (nI_1 r) (tq_rf0 C' E' hp n (r + 1) (by omega) (by omega))
      · refine tq_row0 C (by omega) (fun c hc => (D.1 _ _).mpr (by omega)) ?_
        exact nm_r (nI_1 r) (ih (r + 1) (by omega) (by omega))
  unfold wpX_refresh
  try dsimp only
  refine tq_st C D hq hd (by omega) (br_f (by decide) ?_)
  refine tq_ss C D hq hd (by omega) ?_
  exact ⟨7, main 7 0 (by omega) (by omega)⟩
end
section
/-! the law -/
theorem tq_01 : tq_ts 0 1 := Or.inl ⟨rfl, rfl⟩
theorem tq_feed {post : Int32 → St2 → Prop} {u : St2} {A B D : St2 → Prop} {x y z : Nat} {p : Int32} (hx : x < 128) (hy : y < 128) (hz : z < 128) (e : p = nI (x + 128 * y + 16384 * z)) (h1 : tq_Rd 0 (nI x) u A) (h2 : ∀ u, A u → tq_Rd 0 (nI y) u B) (h3 : ∀ u, B u → tq_Rd 0 (nI z) u D) (hp : ∀ u', D u' → post 1 u') : wpX_feedThree post u p := by
  subst e
  obtain ⟨f0, f1, f2, a1, a2, a3, a4, a5, a6, a7, a8, a9, a10, a11, a12, a13, a14, a15, a16, a17, a18, a19, a20, a21, a22, a23, a24⟩ := u
  have e1 : nI (x + 128 * y + 16384 * z) &&& 127 = nI x := by
    rw [pk_andN (by omega) 7 (by decide)]
    exact congrArg nI (by omega)
  have e2 : (nI (x + 128 * y + 16384 * z) >>> ((7 : Int32) &&& 31)) &&& 127 = nI y := by
    rw [pk_shrN (by omega) _ 7 (by decide), pk_andN (by omega) 7 (by decide)]
    exact congrArg nI (by omega)
  have e3 : nI (x + 128 * y + 16384 * z) >>> ((14 : Int32) &&& 31) = nI z := by
    rw [pk_shrN (by omega) _ 14 (by decide)]
    exact congrArg nI (by omega)
  unfold wpX_feedThree
  try dsimp only
  rw [e1, e2, e3]
  refine br_f (nI_pos (by omega)) (br_t (nI_le (b := 2097151) (by omega) (by decide)) ?_)
  refine h1 _ (fun u' h' => ?_)
  obtain ⟨f0', f1', f2', a1', a2', a3', a4', a5', a6', a7', a8', a9', a10', a11', a12', a13', a14', a15', a16', a17', a18', a19', a20', a21', a22', a23', a24'⟩ := u'
  refine h2 _ h' _ (fun u' h' => ?_)
  obtain ⟨f0', f1', f2', a1', a2', a3', a4', a5', a6', a7', a8', a9', a10', a11', a12', a13', a14', a15', a16', a17', a18', a19', a20', a21', a22', a23', a24'⟩ := u'
  refine h3 _ h' _ (fun u' h' => ?_)
  obtain ⟨f0', f1', f2', a1', a2', a3', a4', a5', a6', a7', a8', a9', a10', a11', a12', a13', a14', a15', a16', a17', a18', a19', a20', a21', a22', a23', a24'⟩ := u'
  exact hp _ h'
theorem tq_cellIn {post : Int32 → Prop} {d k : Nat} (hd : d < 6) (hk : k < 12) (h : post 1) : wpX_isCell post () (nI d) (nI k) :=
  br_f (nI_pos (by omega)) (pk_le 6 d (fun z => absurd z (by omega)) (fun _ => br_f (nI_pos (by omega)) (pk_le 12 k (fun z => absurd z (by omega)) (fun _ => h))))
theorem tq_osign {post : Int32 → Prop} {S Y : Nat → Int32} {d k : Nat} {u : St2} (C : tq_C S Y u) (hd : d < 6) (hk : k < 12) (h : post (S (12 * d + k))) : wpX_sign post u (nI d) (nI k) := by
  obtain ⟨f0, f1, f2, a1, a2, a3, a4, a5, a6, a7, a8, a9, a10, a11, a12, a13, a14, a15, a16, a17, a18, a19, a20, a21, a22, a23, a24⟩ := u
  unfold wpX_sign
  try dsimp only
  refine tq_cellIn hd hk (br_f (by decide) (tq_lo0 C hd ⟨pk_in (12 * d + k) 288 (by omega) (nI_add _ _), ?_⟩))
  rw [nI_add, nI_clamp (by omega), C.2.2.2.2.1 _ (by omega)]
  exact h
theorem tq_ostyle {post : Int32 → Prop} {S Y : Nat → Int32} {d k : Nat} {u : St2} (C : tq_C S Y u) (hd : d < 6) (hk : k < 12) (h : post (Y (12 * d + k))) : wpX_style post u (nI d) (nI k) := by
  obtain ⟨f0, f1, f2, a1, a2, a3, a4, a5, a6, a7, a8, a9, a10, a11, a12, a13, a14, a15, a16, a17, a18, a19, a20, a21, a22, a23, a24⟩ := u
  unfold wpX_style
  try dsimp only
  refine tq_cellIn hd hk (br_f (by decide) (tq_lo0 C hd ⟨pk_in (12 * d + k) 288 (by omega) (nI_add _ _), ?_⟩))
  rw [nI_add, nI_clamp (by omega), C.2.2.2.2.2 _ (by omega)]
  exact h
theorem tq_m {t s : Nat} {n1 ro co wa ins y : Int32} {o : tq_R} {S Y : Nat → Int32} {u : St2} {num : Nat} (hts : tq_ts t s) (hn : (num = 1 ∧ y = 1) ∨ (num = 4 ∧ y = 2) ∨ (num = 7 ∧ y = 4)) (h : tq_K t s (3, 0, 1, nI num, n1, ro, co, wa, 0, ins) o S Y u) : tq_Rd t 109 u (tq_K t s (0, 0, 1, nI num, n1, ro, co, wa, y, ins) o S Y) := by
  rcases hn with ⟨rfl, rfl⟩ | ⟨rfl, rfl⟩ | ⟨rfl, rfl⟩
  · exact tq_m1 hts h
  · exact tq_m4 hts h
  · exact tq_m7 hts h
theorem tq_71 {post : Int32 → St0 → Prop} {mc ms kc ks r k b p num : Nat} {y : Int32} {f0 f1 f2 : Int32} {a1 a2 a3 a4 a5 a6 a7 a8 a9 a10 a11 a12 a13 a14 a15 a16 a17 a18 a19 a20 a21 a22 a23 a24 : Nat → Int32} (hr : r < 8) (hk : k < 9) (hb1 : 33 ≤ b) (hb2 : b < 127) (hn : (num = 1 ∧ y = 1) ∨ (num = 4 ∧ y = 2) ∨ (num = 7 ∧ y = 4)) (hy : (1 : Int32) <<< ((nI p - nI p / 3 * 3) &&& 31) = y) (K : tq_K 0 1 (0, 0, 0, 0, 0, 0, 0, 0, 0, 0) (0, 0, 0, 0, 0, 0, 0, 0, 0, 0) (fun _ => 32) (fun _ => 0) (f0, f1, f2, a1, a2, a3, a4, a5, a6, a7, a8, a9, a10, a11, a12, a13, a14, a15, a16, a17, a18, a19, a20, a21, a22, a23, a24)) (hp : post 1 ()) : wL_lawOf_71 post mc ms (nI (r + 1)) (nI (k + 1)) (nI b) (nI p) (nI num) kc ks f0 f1 f2 a1 a2 a3 a4 a5 a6 a7 a8 a9 a10 a11 a12 a13 a14 a15 a16 a17 a18 a19 a20 a21 a22 a23 a24 := by
  have hnum : num < 10 := by omega
  have hy3 : y = 1 ∨ y = 2 ∨ y = 4 := by rcases hn with ⟨_, h⟩ | ⟨_, h⟩ | ⟨_, h⟩ <;> simp [h]
  have hpe : y.toInt8.toInt32 = y := by rcases hy3 with rfl | rfl | rfl <;> decide
  have q1 : (11675 : Int32) + 16384 * (48 + nI (r + 1)) = nI (27 + 128 * 91 + 16384 * (48 + (r + 1))) := by
    rw [show (11675 : Int32) = nI 11675 from rfl, show (16384 : Int32) = nI 16384 from rfl, show (48 : Int32) = nI 48 from rfl, nI_add, pk_mul, nI_add]
  have q2 : ((59 : Int32) + 128 * (48 + nI (k + 1))) + 1179648 = nI (59 + 128 * (48 + (k + 1)) + 16384 * 72) := by
    rw [show (59 : Int32) = nI 59 from rfl, show (128 : Int32) = nI 128 from rfl, show (48 : Int32) = nI 48 from rfl, show (1179648 : Int32) = nI 1179648 from rfl, nI_add, pk_mul, nI_add, nI_add]
  have q3 : (11675 : Int32) + 16384 * (48 + nI num) = nI (27 + 128 * 91 + 16384 * (48 + num)) := by
    rw [show (11675 : Int32) = nI 11675 from rfl, show (16384 : Int32) = nI 16384 from rfl, show (48 : Int32) = nI 48 from rfl, nI_add, pk_mul, nI_add]
  have q4 : ((109 : Int32) + 128 * nI b) + 212992 = nI (109 + 128 * b + 16384 * 13) := by
    rw [show (109 : Int32) = nI 109 from rfl, show (128 : Int32) = nI 128 from rfl, show (212992 : Int32) = nI 212992 from rfl, pk_mul, nI_add, nI_add]
  unfold wL_lawOf_71
  refine tq_feed (by decide) (by decide) (by omega) q1 (tq_esc tq_01 K) (fun u h => tq_lb tq_01 h) (fun u h => tq_dig tq_01 (by omega) (by decide) (by decide) h) (fun u' h' => ?_)
  obtain ⟨f0', f1', f2', a1', a2', a3', a4', a5', a6', a7', a8', a9', a10', a11', a12', a13', a14', a15', a16', a17', a18', a19', a20', a21', a22', a23', a24'⟩ := u'
  refine tq_feed (by decide) (by omega) (by decide) q2 (tq_next tq_01 h') (fun u h => tq_dig2 tq_01 (by omega) (by decide) (by decide) h) (fun u h => tq_H tq_01 (by omega) (by omega) h) (fun u' h' => ?_)
  obtain ⟨f0', f1', f2', a1', a2', a3', a4', a5', a6', a7', a8', a9', a10', a11', a12', a13', a14', a15', a16', a17', a18', a19', a20', a21', a22', a23', a24'⟩ := u'
  refine tq_feed (by decide) (by decide) (by omega) q3 (tq_esc tq_01 h') (fun u h => tq_lb tq_01 h) (fun u h => tq_dig tq_01 (by omega) (by decide) (by decide) h) (fun u' h' => ?_)
  obtain ⟨f0', f1', f2', a1', a2', a3', a4', a5', a6', a7', a8', a9', a10', a11', a12', a13', a14', a15', a16', a17', a18', a19', a20', a21', a22', a23', a24'⟩ := u'
  rw [show min k 11 = k by omega] at h'
  obtain ⟨d, hd, hdr⟩ : ∃ d, d < 6 ∧ d = min r 5 := ⟨min r 5, by omega, rfl⟩
  rw [← hdr] at h'
  refine tq_feed (by decide) (by omega) (by decide) q4 (tq_m tq_01 hn h') (fun u h => tq_sign tq_01 (by omega) hb2 hd (by omega) hpe h) (fun u h => tq_cr tq_01 h) (fun u' h' => ?_)
  obtain ⟨f0', f1', f2', a1', a2', a3', a4', a5', a6', a7', a8', a9', a10', a11', a12', a13', a14', a15', a16', a17', a18', a19', a20', a21', a22', a23', a24'⟩ := u'
  rw [show 144 * 0 + 12 * d + k = 12 * d + k by omega] at h'
  obtain ⟨e20, e21, e22, e23, e23', e4, e5, e6, e7, e10⟩ := tq_inj h'.1
  have hb : nI b ≠ 32 := fun z => absurd ((nI_eq (b := 32) (by omega) (by decide)).mp z) (by omega)
  unfold wpX_row wpX_column
  try dsimp only
  rw [e4, e5, nI_pred k]
  refine tq_osign h'.2.2 hd (by omega) (tq_ostyle h'.2.2 hd (by omega) ?_)
  refine tq_rf (q := 12 * d + k) hd hk (by omega) hb2 hy3 rfl ⟨h'.2.1, h'.1, h'.2.2⟩ (tq_Dmk hb) pk_us pk_us (fun u' => ?_)
  obtain ⟨f0', f1', f2', a1', a2', a3', a4', a5', a6', a7', a8', a9', a10', a11', a12', a13', a14', a15', a16', a17', a18', a19', a20', a21', a22', a23', a24'⟩ := u'
  try dsimp only
  refine pk_le (r + 1) 6 (fun z => ?_) (fun z => ?_)
  · unfold wL_lawOf_212
    refine ⟨by decide, nm_r hy (br_t ?_ (br_t rfl (br_t pk_us (br_t pk_us (br_t rfl hp)))))⟩
    rw [nI_pred]
    exact congrArg nI (by omega)
  · unfold wL_lawOf_212
    refine ⟨by decide, nm_r hy (br_t ?_ (br_t rfl (br_t pk_us (br_t pk_us (br_t rfl hp)))))⟩
    exact congrArg nI (show d = 5 by omega)
theorem tq_lawOf {post : Int32 → St0 → Prop} (p0 p1 p2 p3 : Int32) (hp : post 1 ()) : wpL_lawOf post 25 769 () p0 p1 p2 p3 := by
  obtain ⟨j0, hj0, e0⟩ := pk_andE p0 (m := 7) 3 (by decide)
  obtain ⟨j1, hj1, e1⟩ := pk_andE p1 (m := 65535) 16 (by decide)
  obtain ⟨j2, hj2, e2⟩ := pk_andE p2 (m := 65535) 16 (by decide)
  obtain ⟨j3, hj3, e3⟩ := pk_andE p3 (m := 65535) 16 (by decide)
  have g0 : 1 + (p0 &&& 7) = nI (j0 + 1) := by
    rw [e0, show (1 : Int32) = nI 1 from rfl, nI_add]
    exact congrArg nI (by omega)
  have g1 : 1 + ((p1 &&& 65535) - (p1 &&& 65535) / 9 * 9) = nI (j1 % 9 + 1) := by
    rw [e1, show (9 : Int32) = nI 9 from rfl, pk_rem (by omega) (by decide) (by decide), show (1 : Int32) = nI 1 from rfl, nI_add]
    exact congrArg nI (by omega)
  have g2 : 33 + ((p2 &&& 65535) - (p2 &&& 65535) / 94 * 94) = nI (33 + j2 % 94) := by
    rw [e2, show (94 : Int32) = nI 94 from rfl, pk_rem (by omega) (by decide) (by decide), show (33 : Int32) = nI 33 from rfl, nI_add]
  have g3 : nI j3 - nI j3 / 3 * 3 = nI (j3 % 3) := pk_rem (a := j3) (d := 3) (by omega) (by decide) (by decide)
  unfold wpL_lawOf
  refine ⟨by decide, by decide, 24, 742, by decide, by decide, tq_init (fun u' K => ?_)⟩
  obtain ⟨f0', f1', f2', a1', a2', a3', a4', a5', a6', a7', a8', a9', a10', a11', a12', a13', a14', a15', a16', a17', a18', a19', a20', a21', a22', a23', a24'⟩ := u'
  refine nm_r g0 ⟨by decide, nm_r g1 ⟨by decide, nm_r g2 (nm_r e3 ⟨by decide, ?_⟩)⟩⟩
  rw [g3]
  refine pk_eq (j3 % 3) 0 (fun z => ?_) (fun z => ⟨by decide, pk_eq (j3 % 3) 1 (fun z2 => ?_) (fun z2 => ?_) rfl rfl (by omega) (by omega)⟩) rfl rfl (by omega) (by omega)
  · exact tq_71 (num := 1) (y := 1) (by omega) (by omega) (by omega) (by omega) (Or.inl ⟨rfl, rfl⟩) (by rw [g3, z]; decide) K hp
  · exact tq_71 (num := 4) (y := 2) (by omega) (by omega) (by omega) (by omega) (Or.inr (Or.inl ⟨rfl, rfl⟩)) (by rw [g3, z2]; decide) K hp
  · exact tq_71 (num := 7) (y := 4) (by omega) (by omega) (by omega) (by omega) (Or.inr (Or.inr ⟨rfl, rfl⟩)) (by rw [g3, show j3 % 3 = 2 by omega]; decide) K hp
theorem tq_cellAt {post : Int32 → Prop} {L i : Nat} {xs : Nat → Int32} (hL : L ≤ 4) (hi : i < 4) (h : ∀ x, post x) : wpL_cellAt post L xs () (nI i) :=
  pk_le L i (fun _ => h _) (fun z => ⟨pk_in i L z rfl (by omega), h _⟩)
end
section
theorem i_vc (xs : Nat → Int32) (L : Nat) (hL : L ≤ 4) : wpL_law (fun r => r = 1) L xs := by
  unfold wpL_law
  refine tq_cellAt (i := 0) hL (by decide) (fun x0 => tq_cellAt (i := 1) hL (by decide) (fun x1 => tq_cellAt (i := 2) hL (by decide) (fun x2 => tq_cellAt (i := 3) hL (by decide) (fun x3 => ?_))))
  exact ⟨25, 769, by decide, by decide, tq_lawOf x0 x1 x2 x3 rfl⟩
end
