section
/-- the empty cache, as the constructor leaves it -/
abbrev zc_E (u : St2) : Prop := match u with
  | (ck, nu, hs, a1, a2, a3, a4, a5, a6, a7, a8, a9, a10, a11, a12, a13, a14, a15, a16, a17) => ck = 0 ∧ nu = 0 ∧ hs = 0 ∧ (∀ j, j < 8 → a1 j = -1) ∧ (∀ j, j < 3 → a2 j = -1) ∧ (∀ j, j < 16 → a9 j = -1) ∧ (∀ j, j < 3 → a11 j = -1) ∧ (∀ j, j < 3 → a12 j = -1) ∧ (∀ j, j < 3 → a15 j = 0) ∧ (∀ j, j < 32 → a17 j = -1)
/-- the heap's share: no end (T = 0), or the one item with an end (T = 1) -/
abbrev zc_H (c T : Nat) (hs : Int32) (a16 a17 : Nat → Int32) : Prop := (T = 0 ∧ hs = 0 ∧ a17 c = -1) ∨ (T = 1 ∧ hs = 1 ∧ a16 0 = nI c ∧ a17 c = 0)
/-- one item: key k in cell c of sort s, value v, number m; w numbers given, the clock q, the item's end e -/
abbrev zc_I (k c s : Nat) (v m w : Int32) (q e : Int64) (T : Nat) (u : St2) : Prop := match u with
  | (ck, nu, hs, a1, a2, a3, a4, a5, a6, a7, a8, a9, a10, a11, a12, a13, a14, a15, a16, a17) => k < 256 ∧ c < 4 ∧ s < 3 ∧ ck = q ∧ nu = w ∧ a1 0 = nI s ∧ (∀ j, 0 < j → j < 8 → a1 j = -1) ∧ a5 c = nI k ∧ a6 c = v ∧ a7 c = m ∧ a8 c = e ∧ a9 (k * 7 % 16) = nI c ∧ (∀ j, j < 16 → j ≠ k * 7 % 16 → a9 j = -1) ∧ a10 c = -1 ∧ a11 s = nI c ∧ a12 s = nI c ∧ a13 c = -1 ∧ a14 c = -1 ∧ a15 s = 1 ∧ zc_H c T hs a16 a17
/-- no key is there -/
abbrev zc_Z (u : St2) : Prop := match u with
  | (ck, nu, hs, a1, a2, a3, a4, a5, a6, a7, a8, a9, a10, a11, a12, a13, a14, a15, a16, a17) => hs = 0 ∧ ∀ j, j < 16 → a9 j = -1
theorem zc_fill {s : Nat → Int32} {i k : Nat} (hk : k = i) (h : ∀ j, j < i → s j = -1) : ∀ j, j < i + 1 → upd s k (-1) j = -1 := by
  intro j hj
  rw [hk]
  by_cases e : j = i
  · rw [e, pk_us]
  · rw [pk_un e]
    exact h j (by omega)
theorem zc_n : (-1 : Int32) < 0 := by decide
theorem zc_n0 : ¬ (0 : Int32) ≤ -1 := by decide
theorem zc_cl {c : Nat} (h : c < 16) : (nI c).toNatClampNeg = c := nI_clamp (by omega)
theorem zc_b {j : Nat} (hj : j < 256) : (nI j * 7) &&& 15 = nI (j * 7 % 16) := by
  have h : nI j * 7 = nI (j * 7) := pk_mul j 7
  rw [h]
  exact pk_andN (n := j * 7) (by omega) 4 (by decide)
theorem zc_sh {c : Nat} (h : c < 4) : nI c >>> ((2 : Int32) &&& 31) = nI 0 := by
  rw [pk_shrN (n := c) (by omega) ((2 : Int32) &&& 31) 2 (by decide)]
  rw [show c / 2 ^ 2 = 0 from Nat.div_eq_of_lt (by omega)]
theorem zc_l {x y : Int32} : x.toInt64 < y.toInt64 ↔ x < y := by
  rw [Int64.lt_iff_toInt_lt, Int32.lt_iff_toInt_lt, Int32.toInt_toInt64, Int32.toInt_toInt64]
end
section
theorem zc_i214 {post : St2 → Prop} {mc ms kc ks : Nat} {ck : Int64} {nu hs : Int32} {a1 a2 a3 a4 a5 a6 a7 : Nat → Int32} {a8 : Nat → Int64} {a9 a10 a11 a12 a13 a14 a15 a16 a17 : Nat → Int32} (H : ∀ b17 : Nat → Int32, (∀ j, j < 32 → b17 j = -1) → post (ck, nu, hs, a1, a2, a3, a4, a5, a6, a7, a8, a9, a10, a11, a12, a13, a14, a15, a16, b17)) : ∃ n, wX_init_214 post mc ms kc ks ck nu hs n 0 a1 a2 a3 a4 a5 a6 a7 a8 a9 a10 a11 a12 a13 a14 a15 a16 a17 :=
  pk_loop (fun n i s => wX_init_214 post mc ms kc ks ck nu hs n (nI i) a1 a2 a3 a4 a5 a6 a7 a8 a9 a10 a11 a12 a13 a14 a15 a16 s) (fun i s => ∀ j, j < i → s j = -1) 32 0 a17 (by omega) (fun j hj => absurd hj (by omega))
    (fun n s h => pk_le 32 32 (fun _ => H s h) (fun z => absurd z (by omega)))
    (fun n i s hi h hw => pk_le 32 i (fun z => absurd z (by omega)) (fun _ => ⟨pk_in i 32 hi, nm_e (nm_r (nI_1 i) (hw _ (zc_fill (nI_clamp (by omega)) h)))⟩))
theorem zc_i193 {post : St2 → Prop} {mc ms kc ks : Nat} {ck : Int64} {nu hs : Int32} {a1 a2 a3 a4 a5 a6 a7 : Nat → Int32} {a8 : Nat → Int64} {a9 a10 a11 a12 a13 a14 a15 a16 a17 : Nat → Int32} (H : ∀ b9 b17 : Nat → Int32, (∀ j, j < 16 → b9 j = -1) → (∀ j, j < 32 → b17 j = -1) → post (ck, nu, hs, a1, a2, a3, a4, a5, a6, a7, a8, b9, a10, a11, a12, a13, a14, a15, a16, b17)) : ∃ n, wX_init_193 post mc ms kc ks ck nu hs n 0 a1 a2 a3 a4 a5 a6 a7 a8 a9 a10 a11 a12 a13 a14 a15 a16 a17 :=
  pk_loop (fun n i s => wX_init_193 post mc ms kc ks ck nu hs n (nI i) a1 a2 a3 a4 a5 a6 a7 a8 s a10 a11 a12 a13 a14 a15 a16 a17) (fun i s => ∀ j, j < i → s j = -1) 16 0 a9 (by omega) (fun j hj => absurd hj (by omega))
    (fun n s h => pk_le 16 16 (fun _ => zc_i214 (fun b17 => H s b17 h)) (fun z => absurd z (by omega)))
    (fun n i s hi h hw => pk_le 16 i (fun z => absurd z (by omega)) (fun _ => ⟨pk_in i 16 hi, nm_e (nm_r (nI_1 i) (hw _ (zc_fill (nI_clamp (by omega)) h)))⟩))
theorem zc_i159 {post : St2 → Prop} {mc ms kc ks : Nat} {ck : Int64} {nu hs : Int32} {a1 a2 a3 a4 a5 a6 a7 : Nat → Int32} {a8 : Nat → Int64} {a9 a10 a11 a12 a13 a14 a15 a16 a17 : Nat → Int32} (H : ∀ b2 b9 b11 b12 b17 : Nat → Int32, (∀ j, j < 3 → b2 j = -1) → (∀ j, j < 16 → b9 j = -1) → (∀ j, j < 3 → b11 j = -1) → (∀ j, j < 3 → b12 j = -1) → (∀ j, j < 32 → b17 j = -1) → post (ck, nu, hs, a1, b2, a3, a4, a5, a6, a7, a8, b9, a10, b11, b12, a13, a14, a15, a16, b17)) : ∃ n, wX_init_159 post mc ms kc ks ck nu hs n 0 a1 a2 a3 a4 a5 a6 a7 a8 a9 a10 a11 a12 a13 a14 a15 a16 a17 :=
  pk_loop (σ := (Nat → Int32) × (Nat → Int32) × (Nat → Int32)) (fun n i s => wX_init_159 post mc ms kc ks ck nu hs n (nI i) a1 s.1 a3 a4 a5 a6 a7 a8 a9 a10 s.2.1 s.2.2 a13 a14 a15 a16 a17) (fun i s => (∀ j, j < i → s.1 j = -1) ∧ (∀ j, j < i → s.2.1 j = -1) ∧ (∀ j, j < i → s.2.2 j = -1)) 3 0 (a2, a11, a12) (by omega) ⟨fun j hj => absurd hj (by omega), fun j hj => absurd hj (by omega), fun j hj => absurd hj (by omega)⟩
    (fun n s h => pk_le 3 3 (fun _ => zc_i193 (fun b9 b17 h9 h17 => H s.1 b9 s.2.1 s.2.2 b17 h.1 h9 h.2.1 h.2.2 h17)) (fun z => absurd z (by omega)))
    (fun n i s hi h hw => pk_le 3 i (fun z => absurd z (by omega)) (fun _ => ⟨pk_in i 3 hi, nm_e ⟨pk_in i 3 hi, nm_e ⟨pk_in i 3 hi, nm_e (nm_r (nI_1 i) (hw (_, _, _) ⟨zc_fill (nI_clamp (by omega)) h.1, zc_fill (nI_clamp (by omega)) h.2.1, zc_fill (nI_clamp (by omega)) h.2.2⟩))⟩⟩⟩))
theorem zc_i138 {post : St2 → Prop} {mc ms kc ks : Nat} {ck : Int64} {nu hs : Int32} {a1 a2 a3 a4 a5 a6 a7 : Nat → Int32} {a8 : Nat → Int64} {a9 a10 a11 a12 a13 a14 a15 a16 a17 : Nat → Int32} (H : ∀ b1 b2 b9 b11 b12 b17 : Nat → Int32, (∀ j, j < 8 → b1 j = -1) → (∀ j, j < 3 → b2 j = -1) → (∀ j, j < 16 → b9 j = -1) → (∀ j, j < 3 → b11 j = -1) → (∀ j, j < 3 → b12 j = -1) → (∀ j, j < 32 → b17 j = -1) → post (ck, nu, hs, b1, b2, a3, a4, a5, a6, a7, a8, b9, a10, b11, b12, a13, a14, a15, a16, b17)) : ∃ n, wX_init_138 post mc ms kc ks ck nu hs n 0 a1 a2 a3 a4 a5 a6 a7 a8 a9 a10 a11 a12 a13 a14 a15 a16 a17 :=
  pk_loop (fun n i s => wX_init_138 post mc ms kc ks ck nu hs n (nI i) s a2 a3 a4 a5 a6 a7 a8 a9 a10 a11 a12 a13 a14 a15 a16 a17) (fun i s => ∀ j, j < i → s j = -1) 8 0 a1 (by omega) (fun j hj => absurd hj (by omega))
    (fun n s h => pk_le 8 8 (fun _ => zc_i159 (fun b2 b9 b11 b12 b17 => H s b2 b9 b11 b12 b17 h)) (fun z => absurd z (by omega)))
    (fun n i s hi h hw => pk_le 8 i (fun z => absurd z (by omega)) (fun _ => ⟨pk_in i 8 hi, nm_e (nm_r (nI_1 i) (hw _ (zc_fill (nI_clamp (by omega)) h)))⟩))
theorem zc_init {post : St2 → Prop} (H : ∀ u, zc_E u → post u) : wpX_init post 17 388 (0, 0, 0) := by
  unfold wpX_init
  refine ⟨by omega, by omega, by omega, by omega, by omega, by omega, by omega, by omega, by omega, by omega, by omega, by omega, by omega, by omega, by omega, by omega, by omega, by omega, by omega, by omega, by omega, by omega, by omega, by omega, by omega, by omega, by omega, by omega, by omega, by omega, by omega, by omega, by omega, by omega, ?_⟩
  exact zc_i138 (fun b1 b2 b9 b11 b12 b17 h1 h2 h9 h11 h12 h17 => H _ ⟨rfl, rfl, rfl, h1, h2, h9, h11, h12, fun _ _ => rfl, h17⟩)
end
section
theorem zc_findZ {post : Int32 → Prop} {u : St2} {p : Int32} (h : zc_Z u) (hp : post (-1)) : wpX_find post u p := by
  obtain ⟨ck, nu, hs, a1, a2, a3, a4, a5, a6, a7, a8, a9, a10, a11, a12, a13, a14, a15, a16, a17⟩ := u
  obtain ⟨_, h9⟩ := h
  unfold wpX_find
  refine br_c (fun _ => hp) (fun n1 => br_c (fun n2 => ?_) (fun _ => hp))
  obtain ⟨j, hj, rfl⟩ := nI_of2 (M := 255) (n := 255) (by decide) n1 n2
  rw [zc_b (by omega)]
  refine ⟨pk_in (j * 7 % 16) 16 (by omega), nm_r (e' := -1) ?_ ⟨1, br_f (by decide) (br_t zc_n hp)⟩⟩
  rw [zc_cl (by omega)]
  exact h9 _ (by omega)
theorem zc_findI {post : Int32 → Prop} {u : St2} {p : Int32} {k c s : Nat} {v m w : Int32} {q e : Int64} {T : Nat} (h : zc_I k c s v m w q e T u) (hp : p = nI k → post (nI c)) (hn : p ≠ nI k → post (-1)) : wpX_find post u p := by
  obtain ⟨ck, nu, hs, a1, a2, a3, a4, a5, a6, a7, a8, a9, a10, a11, a12, a13, a14, a15, a16, a17⟩ := u
  obtain ⟨hk, hc, hs3, hck, hnu, h1, h1', h5, h6, h7, h8, h9, h9', h10, h11, h12, h13, h14, h15, hH⟩ := h
  have N : (¬ 0 ≤ p ∨ ¬ p ≤ 255) → p ≠ nI k := by
    intro z e
    rw [e] at z
    rcases z with z | z
    · exact z (nI_le (a := 0) (b := k) (by omega) (by omega))
    · exact z (nI_le (a := k) (b := 255) (by omega) (by omega))
  unfold wpX_find
  refine br_c (fun n1 => hn (N (Or.inl (Int32.not_le.mpr n1)))) (fun n1 => br_c (fun n2 => ?_) (fun n2 => hn (N (Or.inr n2))))
  obtain ⟨j, hj, rfl⟩ := nI_of2 (M := 255) (n := 255) (by decide) n1 n2
  rw [zc_b (by omega)]
  refine ⟨pk_in (j * 7 % 16) 16 (by omega), ?_⟩
  rw [zc_cl (show j * 7 % 16 < 16 by omega)]
  by_cases eb : j * 7 % 16 = k * 7 % 16
  · rw [eb]
    refine nm_r h9 ⟨2, br_f (by decide) (br_f (nI_pos (by omega)) ⟨pk_in c 32 (by omega), ?_⟩)⟩
    rw [zc_cl (show c < 16 by omega), h5]
    refine br_c (fun z => hp z.symm) (fun z => ⟨pk_in c 32 (by omega), nm_r h10 (nm_e (br_f (by decide) (br_t zc_n (hn (fun y => z y.symm)))))⟩)
  · refine nm_r (h9' _ (by omega) eb) ⟨1, br_f (by decide) (br_t zc_n (hn (fun y => eb ?_)))⟩
    rw [nI_eq (by omega) (by omega)] at y
    rw [y]
theorem zc_hang {post : St2 → Prop} {ck : Int64} {nu hs : Int32} {a1 a2 a3 a4 a5 a6 a7 : Nat → Int32} {a8 : Nat → Int64} {a9 a10 a11 a12 a13 a14 a15 a16 a17 : Nat → Int32} {c s : Nat} (hc : c < 4) (hs3 : s < 3) (h12 : a12 s = -1) (hp : post (ck, nu, hs, a1, a2, a3, a4, a5, a6, a7, a8, a9, a10, upd a11 s (nI c), upd a12 s (nI c), upd a13 c (-1), upd a14 c (-1), a15, a16, a17)) : wpX_hangLast post (ck, nu, hs, a1, a2, a3, a4, a5, a6, a7, a8, a9, a10, a11, a12, a13, a14, a15, a16, a17) (nI c) (nI s) := by
  unfold wpX_hangLast
  rw [zc_cl (show c < 16 by omega), zc_cl (show s < 16 by omega)]
  exact ⟨pk_in s 3 hs3, nm_r h12 ⟨pk_in c 32 (by omega), nm_e ⟨pk_in c 32 (by omega), nm_e ⟨pk_in s 3 hs3, nm_e (br_t zc_n ⟨pk_in s 3 hs3, nm_e hp⟩)⟩⟩⟩⟩
theorem zc_unhang {post : St2 → Prop} {ck : Int64} {nu hs : Int32} {a1 a2 a3 a4 a5 a6 a7 : Nat → Int32} {a8 : Nat → Int64} {a9 a10 a11 a12 a13 a14 a15 a16 a17 : Nat → Int32} {c s : Nat} (hc : c < 4) (hs3 : s < 3) (h13 : a13 c = -1) (h14 : a14 c = -1) (hp : post (ck, nu, hs, a1, a2, a3, a4, a5, a6, a7, a8, a9, a10, upd a11 s (-1), upd a12 s (-1), a13, a14, a15, a16, a17)) : wpX_unhang post (ck, nu, hs, a1, a2, a3, a4, a5, a6, a7, a8, a9, a10, a11, a12, a13, a14, a15, a16, a17) (nI c) (nI s) := by
  unfold wpX_unhang
  rw [zc_cl (show c < 16 by omega), zc_cl (show s < 16 by omega)]
  refine ⟨pk_in c 32 (by omega), nm_r h13 ⟨pk_in c 32 (by omega), nm_r h14 (br_t zc_n ⟨pk_in s 3 hs3, nm_e ?_⟩)⟩⟩
  unfold wX_unhang_38
  rw [zc_cl (show s < 16 by omega)]
  exact br_t zc_n ⟨pk_in s 3 hs3, nm_e hp⟩
theorem zc_use {post : St2 → Prop} {u : St2} {k c s : Nat} {v m w : Int32} {q e : Int64} {T : Nat} (h : zc_I k c s v m w q e T u) (hp : ∀ u', zc_I k c s v m w q e T u' → post u') : wpX_use post u (nI c) := by
  obtain ⟨ck, nu, hs, a1, a2, a3, a4, a5, a6, a7, a8, a9, a10, a11, a12, a13, a14, a15, a16, a17⟩ := u
  obtain ⟨hk, hc, hs3, hck, hnu, h1, h1', h5, h6, h7, h8, h9, h9', h10, h11, h12, h13, h14, h15, hH⟩ := h
  unfold wpX_use
  rw [zc_sh hc, zc_cl (show 0 < 16 by omega)]
  refine ⟨pk_in 0 8 (by omega), nm_r h1 ?_⟩
  exact zc_unhang hc hs3 h13 h14 (zc_hang hc hs3 pk_us (hp _ ⟨hk, hc, hs3, hck, hnu, h1, h1', h5, h6, h7, h8, h9, h9', h10, pk_us, pk_us, pk_us, pk_us, h15, hH⟩))
theorem zc_leave {post : St2 → Prop} {ck : Int64} {nu hs : Int32} {a1 a2 a3 a4 a5 a6 a7 : Nat → Int32} {a8 : Nat → Int64} {a9 a10 a11 a12 a13 a14 a15 a16 a17 : Nat → Int32} {c T : Nat} (hc : c < 4) (hH : zc_H c T hs a16 a17) (hp : ∀ b17 : Nat → Int32, b17 c = -1 → post (ck, nu, 0, a1, a2, a3, a4, a5, a6, a7, a8, a9, a10, a11, a12, a13, a14, a15, a16, b17)) : wpX_leaveHeap post (ck, nu, hs, a1, a2, a3, a4, a5, a6, a7, a8, a9, a10, a11, a12, a13, a14, a15, a16, a17) (nI c) := by
  unfold wpX_leaveHeap
  rw [zc_cl (show c < 16 by omega)]
  rcases hH with ⟨_, rfl, h17⟩ | ⟨_, rfl, h16, h17⟩
  · exact ⟨pk_in c 32 (by omega), nm_r h17 (br_f zc_n0 (hp a17 h17))⟩
  · exact ⟨pk_in c 32 (by omega), nm_r h17 (br_t (by decide) ⟨pk_in c 32 (by omega), nm_e (nm_r (e' := 0) (by decide) (br_t (by decide) (hp _ pk_us)))⟩)⟩
theorem zc_rise {post : St2 → Prop} {u : St2} (hp : post u) : wpX_rise post u 0 := by
  obtain ⟨ck, nu, hs, a1, a2, a3, a4, a5, a6, a7, a8, a9, a10, a11, a12, a13, a14, a15, a16, a17⟩ := u
  unfold wpX_rise
  exact ⟨pk_in 0 32 (by omega), nm_e ⟨1, br_f (by decide) (br_t (by decide) hp)⟩⟩
theorem zc_se25 {post : St2 → Prop} {ck : Int64} {nu hs : Int32} {a1 a2 a3 a4 a5 a6 a7 : Nat → Int32} {a8 : Nat → Int64} {a9 a10 a11 a12 a13 a14 a15 a16 a17 : Nat → Int32} {x2 : Int32} {z : Int64} {k c s : Nat} {v m w : Int32} {q e : Int64} (h : zc_I k c s v m w q e 0 (ck, nu, hs, a1, a2, a3, a4, a5, a6, a7, a8, a9, a10, a11, a12, a13, a14, a15, a16, a17)) (hp0 : x2 ≤ 0 → ∀ u', zc_I k c s v m w q z 0 u' → post u') (hp1 : ¬ x2 ≤ 0 → ∀ u', zc_I k c s v m w q z 1 u' → post u') : wX_setEnd_25 post (nI c) x2 z (nI c) ck nu hs a1 a2 a3 a4 a5 a6 a7 a8 a9 a10 a11 a12 a13 a14 a15 a16 a17 := by
  obtain ⟨hk, hc, hs3, hck, hnu, h1, h1', h5, h6, h7, h8, h9, h9', h10, h11, h12, h13, h14, h15, hH⟩ := h
  rcases hH with ⟨_, rfl, h17⟩ | ⟨hT, _⟩
  · unfold wX_setEnd_25
    rw [zc_cl (show c < 16 by omega)]
    refine ⟨pk_in c 32 (by omega), nm_e (br_c (fun z => hp0 z _ ⟨hk, hc, hs3, hck, hnu, h1, h1', h5, h6, h7, pk_uLs, h9, h9', h10, h11, h12, h13, h14, h15, Or.inl ⟨rfl, rfl, h17⟩⟩) (fun z => ⟨pk_in 0 32 (by omega), nm_e ⟨pk_in c 32 (by omega), nm_e (nm_r (e' := 1) (by decide) ?_)⟩⟩))⟩
    rw [show (1 : Int32) - 1 = 0 by decide, sb_cl0]
    exact zc_rise (hp1 z _ ⟨hk, hc, hs3, hck, hnu, h1, h1', h5, h6, h7, pk_uLs, h9, h9', h10, h11, h12, h13, h14, h15, Or.inr ⟨rfl, rfl, pk_us, pk_us⟩⟩)
  · exact absurd hT (by omega)
theorem zc_setEnd {post : St2 → Prop} {u : St2} {p : Int32} {k c s : Nat} {v m w : Int32} {q e : Int64} {T : Nat} (h : zc_I k c s v m w q e T u) (hp0 : p ≤ 0 → ∀ e' u', zc_I k c s v m w q e' 0 u' → post u') (hp1 : ¬ p ≤ 0 → ∀ u', zc_I k c s v m w q (q + p.toInt64) 1 u' → post u') : wpX_setEnd post u (nI c) p := by
  obtain ⟨ck, nu, hs, a1, a2, a3, a4, a5, a6, a7, a8, a9, a10, a11, a12, a13, a14, a15, a16, a17⟩ := u
  obtain ⟨hk, hc, hs3, hck, hnu, h1, h1', h5, h6, h7, h8, h9, h9', h10, h11, h12, h13, h14, h15, hH⟩ := h
  unfold wpX_setEnd
  refine zc_leave hc hH (fun b17 h17 => ?_)
  have h0 : zc_I k c s v m w q e 0 (ck, nu, 0, a1, a2, a3, a4, a5, a6, a7, a8, a9, a10, a11, a12, a13, a14, a15, a16, b17) := ⟨hk, hc, hs3, hck, hnu, h1, h1', h5, h6, h7, h8, h9, h9', h10, h11, h12, h13, h14, h15, Or.inl ⟨rfl, rfl, h17⟩⟩
  refine br_c (fun z => zc_se25 h0 (fun y => hp0 y _) (fun y => absurd (show p ≤ 0 by rw [z]; decide) y)) (fun z => zc_se25 h0 (fun y => hp0 y _) (fun y => ?_))
  rw [hck]
  exact hp1 y
theorem zc_next {post : Int32 → St2 → Prop} {u : St2} {k c s : Nat} {v m w : Int32} {q e : Int64} {T : Nat} (h : zc_I k c s v m w q e T u) (hp : ∀ u', zc_I k c s v (w + 1) (w + 1) q e T u' → post (w + 1) u') : wpX_nextNumber post u (nI c) := by
  obtain ⟨ck, nu, hs, a1, a2, a3, a4, a5, a6, a7, a8, a9, a10, a11, a12, a13, a14, a15, a16, a17⟩ := u
  obtain ⟨hk, hc, hs3, hck, rfl, h1, h1', h5, h6, h7, h8, h9, h9', h10, h11, h12, h13, h14, h15, hH⟩ := h
  unfold wpX_nextNumber
  rw [zc_cl (show c < 16 by omega)]
  exact nm_e ⟨pk_in c 32 (by omega), nm_e (hp _ ⟨hk, hc, hs3, hck, rfl, h1, h1', h5, h6, pk_us, h8, h9, h9', h10, h11, h12, h13, h14, h15, hH⟩)⟩
theorem zc_unchain {post : St2 → Prop} {ck : Int64} {nu hs : Int32} {a1 a2 a3 a4 a5 a6 a7 : Nat → Int32} {a8 : Nat → Int64} {a9 a10 a11 a12 a13 a14 a15 a16 a17 : Nat → Int32} {k c : Nat} (hk : k < 256) (hc : c < 4) (h5 : a5 c = nI k) (h9 : a9 (k * 7 % 16) = nI c) (h10 : a10 c = -1) (hp : post (ck, nu, hs, a1, a2, a3, a4, a5, a6, a7, a8, upd a9 (k * 7 % 16) (-1), a10, a11, a12, a13, a14, a15, a16, a17)) : wpX_unchain post (ck, nu, hs, a1, a2, a3, a4, a5, a6, a7, a8, a9, a10, a11, a12, a13, a14, a15, a16, a17) (nI c) := by
  unfold wpX_unchain
  dsimp only
  rw [zc_cl (show c < 16 by omega), h5, zc_b hk, h10]
  refine ⟨pk_in c 32 (by omega), nm_e ⟨pk_in (k * 7 % 16) 16 (by omega), ?_⟩⟩
  rw [zc_cl (show k * 7 % 16 < 16 by omega)]
  exact br_t h9 ⟨pk_in c 32 (by omega), pk_in (k * 7 % 16) 16 (by omega), nm_e hp⟩
theorem zc_give {post : St2 → Prop} {u : St2} {k c s : Nat} {v m w : Int32} {q e : Int64} {T : Nat} (h : zc_I k c s v m w q e T u) (hp : ∀ u', zc_Z u' → post u') : wpX_giveUp post u (nI c) := by
  obtain ⟨ck, nu, hs, a1, a2, a3, a4, a5, a6, a7, a8, a9, a10, a11, a12, a13, a14, a15, a16, a17⟩ := u
  obtain ⟨hk, hc, hs3, hck, hnu, h1, h1', h5, h6, h7, h8, h9, h9', h10, h11, h12, h13, h14, h15, hH⟩ := h
  unfold wpX_giveUp
  rw [zc_sh hc, zc_cl (show 0 < 16 by omega)]
  refine ⟨pk_in 0 8 (by omega), nm_r h1 (zc_unchain hk hc h5 h9 h10 (zc_unhang hc hs3 h13 h14 (zc_leave hc hH (fun b17 h17 => ?_))))⟩
  refine ⟨pk_in c 32 (by omega), nm_e ⟨pk_in s 3 hs3, pk_in s 3 hs3, nm_e ⟨pk_in s 3 hs3, pk_in c 32 (by omega), nm_e ⟨pk_in s 3 hs3, nm_e (hp _ ⟨rfl, fun j hj => ?_⟩)⟩⟩⟩⟩
  by_cases ej : j = k * 7 % 16
  · rw [ej, pk_us]
  · rw [pk_un ej]
    exact h9' j hj ej
end
section
theorem zc_gp64 {post : St2 → Prop} {ck : Int64} {nu hs : Int32} {a1 a2 a3 a4 a5 a6 a7 : Nat → Int32} {a8 : Nat → Int64} {a9 a10 a11 a12 a13 a14 a15 a16 a17 : Nat → Int32} {s N : Nat} (hs3 : s < 3) (hN0 : 0 < N) (hN : N ≤ 4) (H : ∀ b2 b3 : Nat → Int32, b2 s = nI (N - 1) → post (ck, nu, hs, a1, b2, b3, a4, a5, a6, a7, a8, a9, a10, a11, a12, a13, a14, a15, a16, a17)) : ∃ n, wX_givePage_64 post (nI s) (nI 0) (nI N) ck nu hs n 0 a1 a2 a3 a4 a5 a6 a7 a8 a9 a10 a11 a12 a13 a14 a15 a16 a17 := by
  have F : ∀ i : Nat, (4 : Int32) * nI 0 + nI i = nI i := by
    intro i
    rw [nI_0, Int32.mul_zero, Int32.zero_add]
  refine pk_loop (σ := (Nat → Int32) × (Nat → Int32)) (fun n i t => wX_givePage_64 post (nI s) (nI 0) (nI N) ck nu hs n (nI i) a1 t.1 t.2 a4 a5 a6 a7 a8 a9 a10 a11 a12 a13 a14 a15 a16 a17) (fun i t => 0 < i → t.1 s = nI (i - 1)) N 0 (a2, a3) (by omega) (fun z => absurd z (by omega)) ?_ ?_
  · intro n t h
    exact pk_le N N (fun _ => H t.1 t.2 (h hN0)) (fun z => absurd z (by omega))
  · intro n i t hi h hw
    refine pk_le N i (fun z => absurd z (by omega)) (fun _ => ?_)
    rw [F i, zc_cl (show s < 16 by omega)]
    exact ⟨pk_in s 3 hs3, pk_in i 32 (by omega), nm_e ⟨pk_in s 3 hs3, nm_e (nm_r (nI_1 i) (hw (_, _) (fun _ => pk_us)))⟩⟩
theorem zc_gp5 {post : St2 → Prop} {ck : Int64} {nu hs : Int32} {a1 a2 a3 a4 a5 a6 a7 : Nat → Int32} {a8 : Nat → Int64} {a9 a10 a11 a12 a13 a14 a15 a16 a17 : Nat → Int32} {x : Int32} {n i : Nat} {x2 : Int32} (hi : i < 8) (h1 : a1 i = -1) (h : wX_givePage_5 post x ck nu hs a1 a2 a3 a4 a5 a6 a7 a8 a9 a10 a11 a12 a13 a14 a15 a16 a17 n (nI i) (nI i + (-1))) : wX_givePage_5 post x ck nu hs a1 a2 a3 a4 a5 a6 a7 a8 a9 a10 a11 a12 a13 a14 a15 a16 a17 (n + 1) x2 (nI i) := by
  refine br_f (nI_pos (by omega)) ⟨pk_in i 8 hi, ?_⟩
  rw [zc_cl (show i < 16 by omega), h1]
  exact br_f zc_n0 (nm_e h)
theorem zc_page {post : St2 → Prop} {ck : Int64} {nu hs : Int32} {a1 a2 a3 a4 a5 a6 a7 : Nat → Int32} {a8 : Nat → Int64} {a9 a10 a11 a12 a13 a14 a15 a16 a17 : Nat → Int32} {s N : Nat} (hN : (s = 0 ∧ N = 4) ∨ (s = 1 ∧ N = 2) ∨ (s = 2 ∧ N = 1)) (h1 : ∀ j, j < 8 → a1 j = -1) (H : ∀ b2 b3 : Nat → Int32, b2 s = nI (N - 1) → post (ck, nu, hs, upd a1 0 (nI s), b2, b3, a4, a5, a6, a7, a8, a9, a10, a11, a12, a13, a14, a15, a16, a17)) : wpX_givePage post (ck, nu, hs, a1, a2, a3, a4, a5, a6, a7, a8, a9, a10, a11, a12, a13, a14, a15, a16, a17) (nI s) := by
  unfold wpX_givePage
  refine ⟨9, zc_gp5 (i := 7) (by omega) (h1 _ (by omega)) (zc_gp5 (i := 6) (by omega) (h1 _ (by omega)) (zc_gp5 (i := 5) (by omega) (h1 _ (by omega)) (zc_gp5 (i := 4) (by omega) (h1 _ (by omega)) (zc_gp5 (i := 3) (by omega) (h1 _ (by omega)) (zc_gp5 (i := 2) (by omega) (h1 _ (by omega)) (zc_gp5 (i := 1) (by omega) (h1 _ (by omega)) (zc_gp5 (i := 0) (by omega) (h1 _ (by omega)) ?_)))))))⟩
  refine br_t (by decide) (br_t (by decide) ⟨pk_in 0 8 (by omega), nm_e ?_⟩)
  rw [zc_cl (show 0 < 16 by omega)]
  rcases hN with ⟨rfl, rfl⟩ | ⟨rfl, rfl⟩ | ⟨rfl, rfl⟩
  · exact br_t rfl (zc_gp64 (s := 0) (N := 4) (by omega) (by omega) (by omega) H)
  · exact br_f (by decide) (br_t rfl (zc_gp64 (s := 1) (N := 2) (by omega) (by omega) (by omega) H))
  · exact br_f (by decide) (br_f (by decide) (zc_gp64 (s := 2) (N := 1) (by omega) (by omega) (by omega) H))
theorem zc_room {post : Int32 → St2 → Prop} {ck : Int64} {nu hs : Int32} {a1 a2 a3 a4 a5 a6 a7 : Nat → Int32} {a8 : Nat → Int64} {a9 a10 a11 a12 a13 a14 a15 a16 a17 : Nat → Int32} {s N : Nat} (hN : (s = 0 ∧ N = 4) ∨ (s = 1 ∧ N = 2) ∨ (s = 2 ∧ N = 1)) (h1 : ∀ j, j < 8 → a1 j = -1) (h2 : a2 s = -1) (H : ∀ b2 b3 : Nat → Int32, post (nI (N - 1)) (ck, nu, hs, upd a1 0 (nI s), b2, b3, a4, a5, a6, a7, a8, a9, a10, a11, a12, a13, a14, a15, a16, a17)) : wpX_makeRoom post (ck, nu, hs, a1, a2, a3, a4, a5, a6, a7, a8, a9, a10, a11, a12, a13, a14, a15, a16, a17) (nI s) := by
  have hs3 : s < 3 := by omega
  have hn : N - 1 < 4 := by omega
  unfold wpX_makeRoom
  dsimp only
  rw [zc_cl (show s < 16 by omega), h2]
  refine ⟨pk_in s 3 hs3, br_f zc_n0 (zc_page hN h1 (fun b2 b3 hb => ?_))⟩
  show wX_makeRoom_14 post (nI s) ck nu hs (upd a1 0 (nI s)) (b2) (b3) a4 a5 a6 a7 a8 a9 a10 a11 a12 a13 a14 a15 a16 a17
  unfold wX_makeRoom_14
  rw [zc_cl (show s < 16 by omega), hb]
  refine ⟨pk_in s 3 hs3, br_t (nI_pos' (by omega)) ?_⟩
  unfold wX_makeRoom_42
  rw [zc_cl (show s < 16 by omega), hb]
  exact ⟨pk_in s 3 hs3, nm_e (br_f (nI_pos (by omega)) ⟨pk_in (N - 1) 32 (by omega), pk_in s 3 hs3, nm_e (H _ _)⟩)⟩
theorem zc_enter {post : St2 → Prop} {ck : Int64} {nu hs : Int32} {a1 a2 a3 a4 a5 a6 a7 : Nat → Int32} {a8 : Nat → Int64} {a9 a10 a11 a12 a13 a14 a15 a16 a17 : Nat → Int32} {k c s T : Nat} (hk : k < 256) (hc : c < 4) (hs3 : s < 3) (h1 : a1 0 = nI s) (h1' : ∀ j, 0 < j → j < 8 → a1 j = -1) (h9 : ∀ j, j < 16 → a9 j = -1) (h12 : a12 s = -1) (h15 : a15 s = 0) (hH : zc_H c T hs a16 a17) (hp : ∀ u', zc_I k c s (a6 c) (a7 c) nu ck 0 T u' → post u') : wpX_enter post (ck, nu, hs, a1, a2, a3, a4, a5, a6, a7, a8, a9, a10, a11, a12, a13, a14, a15, a16, a17) (nI c) (nI k) (nI s) := by
  unfold wpX_enter
  dsimp only
  rw [zc_b hk, zc_cl (show c < 16 by omega), zc_cl (show s < 16 by omega), zc_cl (show k * 7 % 16 < 16 by omega), h9 (k * 7 % 16) (by omega), h15]
  refine ⟨pk_in c 32 (by omega), nm_e ⟨pk_in c 32 (by omega), nm_e ⟨pk_in c 32 (by omega), nm_e ⟨pk_in (k * 7 % 16) 16 (by omega), pk_in c 32 (by omega), nm_e ⟨pk_in (k * 7 % 16) 16 (by omega), nm_e ⟨pk_in s 3 hs3, pk_in s 3 hs3, nm_e ?_⟩⟩⟩⟩⟩⟩
  refine zc_hang hc hs3 h12 (hp _ ⟨hk, hc, hs3, rfl, rfl, h1, h1', pk_us, rfl, rfl, pk_uLs, pk_us, fun j hj ej => ?_, pk_us, pk_us, pk_us, pk_us, pk_us, ?_, hH⟩)
  · dsimp only
    rw [pk_un ej]
    exact h9 j hj
  · dsimp only
    rw [pk_us]
    decide
theorem zc_s125 {post : Int32 → St2 → Prop} {ck : Int64} {nu hs : Int32} {a1 a2 a3 a4 a5 a6 a7 : Nat → Int32} {a8 : Nat → Int64} {a9 a10 a11 a12 a13 a14 a15 a16 a17 : Nat → Int32} {x3 x4 : Int32} {k c s : Nat} {v m w : Int32} {q e : Int64} {T : Nat} (h : zc_I k c s v m w q e T (ck, nu, hs, a1, a2, a3, a4, a5, a6, a7, a8, a9, a10, a11, a12, a13, a14, a15, a16, a17)) (hp0 : x4 ≤ 0 → ∀ e' u', zc_I k c s x3 (w + 1) (w + 1) q e' 0 u' → post (w + 1) u') (hp1 : ¬ x4 ≤ 0 → ∀ u', zc_I k c s x3 (w + 1) (w + 1) q (q + x4.toInt64) 1 u' → post (w + 1) u') : wX_store_125 post x3 x4 (nI c) ck nu hs a1 a2 a3 a4 a5 a6 a7 a8 a9 a10 a11 a12 a13 a14 a15 a16 a17 := by
  obtain ⟨hk, hc, hs3, hck, hnu, h1, h1', h5, h6, h7, h8, h9, h9', h10, h11, h12, h13, h14, h15, hH⟩ := h
  unfold wX_store_125
  rw [zc_cl (show c < 16 by omega)]
  refine ⟨pk_in c 32 (by omega), nm_e ?_⟩
  have h0 : zc_I k c s x3 m w q e T (ck, nu, hs, a1, a2, a3, a4, a5, upd a6 c x3, a7, a8, a9, a10, a11, a12, a13, a14, a15, a16, a17) := ⟨hk, hc, hs3, hck, hnu, h1, h1', h5, pk_us, h7, h8, h9, h9', h10, h11, h12, h13, h14, h15, hH⟩
  refine zc_use h0 (fun u' h' => ?_)
  obtain ⟨ck', nu', hs', a1', a2', a3', a4', a5', a6', a7', a8', a9', a10', a11', a12', a13', a14', a15', a16', a17'⟩ := u'
  refine zc_setEnd h' (fun z e' u' h'' => ?_) (fun z u' h'' => ?_)
  · obtain ⟨ck'', nu'', hs'', a1'', a2'', a3'', a4'', a5'', a6'', a7'', a8'', a9'', a10'', a11'', a12'', a13'', a14'', a15'', a16'', a17''⟩ := u'
    refine zc_next h'' (fun u' h3 => ?_)
    obtain ⟨ck''', nu''', hs''', a1''', a2''', a3''', a4''', a5''', a6''', a7''', a8''', a9''', a10''', a11''', a12''', a13''', a14''', a15''', a16''', a17'''⟩ := u'
    exact hp0 z _ _ h3
  · obtain ⟨ck'', nu'', hs'', a1'', a2'', a3'', a4'', a5'', a6'', a7'', a8'', a9'', a10'', a11'', a12'', a13'', a14'', a15'', a16'', a17''⟩ := u'
    refine zc_next h'' (fun u' h3 => ?_)
    obtain ⟨ck''', nu''', hs''', a1''', a2''', a3''', a4''', a5''', a6''', a7''', a8''', a9''', a10''', a11''', a12''', a13''', a14''', a15''', a16''', a17'''⟩ := u'
    exact hp1 z _ h3
theorem zc_s57 {post : Int32 → St2 → Prop} {ck : Int64} {nu hs : Int32} {a1 a2 a3 a4 a5 a6 a7 : Nat → Int32} {a8 : Nat → Int64} {a9 a10 a11 a12 a13 a14 a15 a16 a17 : Nat → Int32} {x3 x4 : Int32} {k s N : Nat} (hk : k < 256) (hN : (s = 0 ∧ N = 4) ∨ (s = 1 ∧ N = 2) ∨ (s = 2 ∧ N = 1)) (h : zc_E (ck, nu, hs, a1, a2, a3, a4, a5, a6, a7, a8, a9, a10, a11, a12, a13, a14, a15, a16, a17)) (hp0 : x4 ≤ 0 → ∀ e' u', zc_I k (N - 1) s x3 1 1 0 e' 0 u' → post 1 u') (hp1 : ¬ x4 ≤ 0 → ∀ u', zc_I k (N - 1) s x3 1 1 0 x4.toInt64 1 u' → post 1 u') : wX_store_57 post (nI k) x3 x4 (nI s) ck nu hs a1 a2 a3 a4 a5 a6 a7 a8 a9 a10 a11 a12 a13 a14 a15 a16 a17 := by
  have hs3 : s < 3 := by omega
  have hc : N - 1 < 4 := by omega
  obtain ⟨rfl, rfl, rfl, h1, h2, h9, h11, h12, h15, h17⟩ := h
  unfold wX_store_57
  refine zc_findZ ⟨rfl, h9⟩ (br_t zc_n ?_)
  unfold wX_store_85
  refine zc_room hN h1 (h2 s hs3) (fun b2 b3 => ?_)
  refine br_t (nI_pos' (by omega)) (br_t zc_n ?_)
  unfold wX_store_112
  refine zc_enter (T := 0) hk hc hs3 pk_us (fun j hj hj8 => ?_) h9 (h12 s hs3) (h15 s hs3) (Or.inl ⟨rfl, rfl, h17 _ (by omega)⟩) (fun u' h' => ?_)
  · rw [pk_un (by omega)]
    exact h1 j hj8
  · obtain ⟨ck', nu', hs', a1', a2', a3', a4', a5', a6', a7', a8', a9', a10', a11', a12', a13', a14', a15', a16', a17'⟩ := u'
    refine zc_s125 h' (fun z e' u' h3 => ?_) (fun z u' h3 => ?_)
    · rw [show (0 : Int32) + 1 = 1 by decide] at h3 ⊢
      exact hp0 z e' u' h3
    · rw [show (0 : Int32) + 1 = 1 by decide] at h3 ⊢
      rw [Int64.zero_add] at h3
      exact hp1 z u' h3
theorem zc_store {post : Int32 → St2 → Prop} {u : St2} {p1 p2 p3 : Int32} {k : Nat} (hk : k < 256) (h : zc_E u) (l1 : ¬ p1 < 1) (l2 : ¬ 12 < p1) (t1 : ¬ p3 < 0) (t2 : ¬ 1000 < p3)
    (H : ∀ (s c : Nat) (e : Int64) (T : Nat) (u' : St2), ((3 < p1 ∧ 6 < p1 ∧ s = 2) ∨ (3 < p1 ∧ ¬ 6 < p1 ∧ s = 1) ∨ (¬ 3 < p1 ∧ s = 0)) → ((p3 ≤ 0 ∧ T = 0) ∨ (¬ p3 ≤ 0 ∧ T = 1 ∧ e = p3.toInt64)) → zc_I k c s p2 1 1 0 e T u' → post 1 u') : wpX_store post u (nI k) p1 p2 p3 := by
  obtain ⟨ck, nu, hs, a1, a2, a3, a4, a5, a6, a7, a8, a9, a10, a11, a12, a13, a14, a15, a16, a17⟩ := u
  unfold wpX_store
  refine br_f (nI_pos (by omega)) (br_f (nI_nlt (a := 255) (b := k) (by omega) (by omega)) (br_f l1 (br_f l2 (br_f t1 (br_t (Int32.not_lt.mp t2) (br_c (fun g3 => br_c (fun g6 => ?_) (fun g6 => ?_)) (fun g3 => ?_)))))))
  · exact zc_s57 (s := 2) (N := 1) hk (by omega) h (fun z e' u' h' => H 2 0 e' 0 u' (Or.inl ⟨g3, g6, rfl⟩) (Or.inl ⟨z, rfl⟩) h') (fun z u' h' => H 2 0 _ 1 u' (Or.inl ⟨g3, g6, rfl⟩) (Or.inr ⟨z, rfl, rfl⟩) h')
  · exact zc_s57 (s := 1) (N := 2) hk (by omega) h (fun z e' u' h' => H 1 1 e' 0 u' (Or.inr (Or.inl ⟨g3, g6, rfl⟩)) (Or.inl ⟨z, rfl⟩) h') (fun z u' h' => H 1 1 _ 1 u' (Or.inr (Or.inl ⟨g3, g6, rfl⟩)) (Or.inr ⟨z, rfl, rfl⟩) h')
  · exact zc_s57 (s := 0) (N := 4) hk (by omega) h (fun z e' u' h' => H 0 3 e' 0 u' (Or.inr (Or.inr ⟨g3, rfl⟩)) (Or.inl ⟨z, rfl⟩) h') (fun z u' h' => H 0 3 _ 1 u' (Or.inr (Or.inr ⟨g3, rfl⟩)) (Or.inr ⟨z, rfl, rfl⟩) h')
theorem zc_storeN {post : Int32 → St2 → Prop} {u : St2} {p0 p1 p2 p3 : Int32} (hb : p0 < 0 ∨ 255 < p0 ∨ p1 < 1 ∨ 12 < p1 ∨ p3 < 0 ∨ 1000 < p3) (hp : post (-1) u) : wpX_store post u p0 p1 p2 p3 := by
  obtain ⟨ck, nu, hs, a1, a2, a3, a4, a5, a6, a7, a8, a9, a10, a11, a12, a13, a14, a15, a16, a17⟩ := u
  unfold wpX_store
  refine br_c (fun _ => hp) (fun n1 => br_c (fun _ => hp) (fun n2 => br_c (fun _ => hp) (fun n3 => br_c (fun _ => hp) (fun n4 => br_c (fun _ => hp) (fun n5 => br_c (fun n6 => ?_) (fun _ => hp))))))
  rcases hb with z | z | z | z | z | z
  · exact absurd z n1
  · exact absurd z n2
  · exact absurd z n3
  · exact absurd z n4
  · exact absurd z n5
  · exact absurd z (Int32.not_lt.mpr n6)
end
section
theorem zc_hasZ {post : Int32 → Prop} {u : St2} {p : Int32} (h : zc_Z u) (hp : post 0) : wpX_has post u p := by
  obtain ⟨ck, nu, hs, a1, a2, a3, a4, a5, a6, a7, a8, a9, a10, a11, a12, a13, a14, a15, a16, a17⟩ := u
  unfold wpX_has
  exact zc_findZ h (br_t zc_n hp)
theorem zc_hasI {post : Int32 → Prop} {u : St2} {p : Int32} {k c s : Nat} {v m w : Int32} {q e : Int64} {T : Nat} (h : zc_I k c s v m w q e T u) (hp : p = nI k → post 1) (hn : p ≠ nI k → post 0) : wpX_has post u p := by
  obtain ⟨ck, nu, hs, a1, a2, a3, a4, a5, a6, a7, a8, a9, a10, a11, a12, a13, a14, a15, a16, a17⟩ := u
  have hc : c < 4 := h.2.1
  unfold wpX_has
  exact zc_findI h (fun z => br_f (nI_pos (by omega)) (hp z)) (fun z => br_t zc_n (hn z))
theorem zc_numZ {post : Int32 → Prop} {u : St2} {p : Int32} (h : zc_Z u) (hp : post (-1)) : wpX_number post u p := by
  obtain ⟨ck, nu, hs, a1, a2, a3, a4, a5, a6, a7, a8, a9, a10, a11, a12, a13, a14, a15, a16, a17⟩ := u
  unfold wpX_number
  exact zc_findZ h (br_f zc_n0 hp)
theorem zc_numI {post : Int32 → Prop} {u : St2} {p : Int32} {k c s : Nat} {v m w : Int32} {q e : Int64} {T : Nat} (h : zc_I k c s v m w q e T u) (hp : p = nI k → post m) (hn : p ≠ nI k → post (-1)) : wpX_number post u p := by
  obtain ⟨ck, nu, hs, a1, a2, a3, a4, a5, a6, a7, a8, a9, a10, a11, a12, a13, a14, a15, a16, a17⟩ := u
  have hI := h
  obtain ⟨hk, hc, hs3, hck, hnu, h1, h1', h5, h6, rfl, h8, h9, h9', h10, h11, h12, h13, h14, h15, hH⟩ := h
  unfold wpX_number
  refine zc_findI hI (fun z => br_t (nI_pos' (by omega)) ⟨pk_in c 32 (by omega), ?_⟩) (fun z => br_f zc_n0 (hn z))
  rw [zc_cl (show c < 16 by omega)]
  exact hp z
theorem zc_items {post : Int32 → Prop} {ck : Int64} {nu hs : Int32} {a1 a2 a3 a4 a5 a6 a7 : Nat → Int32} {a8 : Nat → Int64} {a9 a10 a11 a12 a13 a14 a15 a16 a17 : Nat → Int32} {s : Nat} {y : Int32} (hs3 : s < 3) (h15 : a15 s = y) (hp : post y) : wpX_items post (ck, nu, hs, a1, a2, a3, a4, a5, a6, a7, a8, a9, a10, a11, a12, a13, a14, a15, a16, a17) (nI s) := by
  unfold wpX_items
  dsimp only
  rw [zc_cl (show s < 16 by omega), h15]
  exact br_f (nI_pos (by omega)) (br_t (nI_le (a := s) (b := 2) (by omega) (by omega)) ⟨pk_in s 3 hs3, hp⟩)
theorem zc_oldE {post : Int32 → Prop} {ck : Int64} {nu hs : Int32} {a1 a2 a3 a4 a5 a6 a7 : Nat → Int32} {a8 : Nat → Int64} {a9 a10 a11 a12 a13 a14 a15 a16 a17 : Nat → Int32} {s : Nat} (hs3 : s < 3) (h11 : a11 s = -1) (hp : post (-1)) : wpX_oldest post (ck, nu, hs, a1, a2, a3, a4, a5, a6, a7, a8, a9, a10, a11, a12, a13, a14, a15, a16, a17) (nI s) := by
  unfold wpX_oldest
  dsimp only
  rw [zc_cl (show s < 16 by omega), h11]
  exact br_f (nI_pos (by omega)) (br_f (nI_nlt (a := 2) (b := s) (by omega) (by omega)) ⟨pk_in s 3 hs3, br_f zc_n0 hp⟩)
theorem zc_oldI {post : Int32 → Prop} {ck : Int64} {nu hs : Int32} {a1 a2 a3 a4 a5 a6 a7 : Nat → Int32} {a8 : Nat → Int64} {a9 a10 a11 a12 a13 a14 a15 a16 a17 : Nat → Int32} {s c : Nat} {y : Int32} (hs3 : s < 3) (hc : c < 4) (h11 : a11 s = nI c) (h5 : a5 c = y) (hp : post y) : wpX_oldest post (ck, nu, hs, a1, a2, a3, a4, a5, a6, a7, a8, a9, a10, a11, a12, a13, a14, a15, a16, a17) (nI s) := by
  unfold wpX_oldest
  dsimp only
  rw [zc_cl (show s < 16 by omega), h11, zc_cl (show c < 16 by omega), h5]
  exact br_f (nI_pos (by omega)) (br_f (nI_nlt (a := 2) (b := s) (by omega) (by omega)) ⟨pk_in s 3 hs3, br_t (nI_pos' (by omega)) ⟨pk_in s 3 hs3, pk_in c 32 (by omega), hp⟩⟩)
theorem zc_pg {post : Int32 → Prop} {ck : Int64} {nu hs : Int32} {a1 a2 a3 a4 a5 a6 a7 : Nat → Int32} {a8 : Nat → Int64} {a9 a10 a11 a12 a13 a14 a15 a16 a17 : Nat → Int32} {x1 g : Int32} (f : Nat → Nat) (hg : (x1 = 3 ∧ g = -1) ∨ (x1 ≠ 3 ∧ g = x1)) (hf : ∀ i, i < 8 → (a1 i = g ∧ f (i + 1) = f i + 1) ∨ (¬ a1 i = g ∧ f (i + 1) = f i)) (hp : post (nI (f 8))) : ∃ n, wX_pages_15 post x1 ck nu hs a1 a2 a3 a4 a5 a6 a7 a8 a9 a10 a11 a12 a13 a14 a15 a16 a17 n (nI (f 0)) (nI 0) := by
  refine pk_loop (σ := Unit) (fun n i _ => wX_pages_15 post x1 ck nu hs a1 a2 a3 a4 a5 a6 a7 a8 a9 a10 a11 a12 a13 a14 a15 a16 a17 n (nI (f i)) (nI i)) (fun _ _ => True) 8 0 () (by omega) trivial ?_ ?_
  · intro n _ _
    exact pk_le 8 8 (fun _ => hp) (fun z => absurd z (by omega))
  · intro n i _ hi _ hw
    have hw' : wX_pages_15 post x1 ck nu hs a1 a2 a3 a4 a5 a6 a7 a8 a9 a10 a11 a12 a13 a14 a15 a16 a17 n (nI (f (i + 1))) (nI (i + 1)) := hw () trivial
    have K : wX_pages_38 post (wX_pages_15 post x1 ck nu hs a1 a2 a3 a4 a5 a6 a7 a8 a9 a10 a11 a12 a13 a14 a15 a16 a17 n) x1 (nI i) g (a1 i) (nI (f i)) ck nu hs a1 a2 a3 a4 a5 a6 a7 a8 a9 a10 a11 a12 a13 a14 a15 a16 a17 := by
      unfold wX_pages_38
      rcases hf i hi with ⟨y, z⟩ | ⟨y, z⟩
      · rw [z] at hw'
        exact br_t y (nm_r (nI_1 _) (nm_r (nI_1 _) hw'))
      · rw [z] at hw'
        exact br_f y (nm_r (Int32.add_zero _) (nm_r (nI_1 _) hw'))
    refine pk_le 8 i (fun z => absurd z (by omega)) (fun _ => ⟨pk_in i 8 hi, ?_⟩)
    rw [zc_cl (show i < 16 by omega)]
    rcases hg with ⟨y, z⟩ | ⟨y, z⟩
    · rw [z] at K
      exact br_t y K
    · rw [z] at K
      exact br_f y K
theorem zc_ne1 {s : Nat} (h : s < 3) : ¬ (-1 : Int32) = nI s := by
  intro z
  have h0 : ¬ nI s < 0 := nI_pos (by omega)
  rw [← z] at h0
  exact h0 zc_n
theorem zc_ne3 {s : Nat} (h : s < 3) : nI s ≠ 3 := by
  intro z
  have z' : nI s = nI 3 := z
  rw [nI_eq (by omega) (by omega)] at z'
  omega
theorem zc_pgs {post : Int32 → Prop} {ck : Int64} {nu hs : Int32} {a1 a2 a3 a4 a5 a6 a7 : Nat → Int32} {a8 : Nat → Int64} {a9 a10 a11 a12 a13 a14 a15 a16 a17 : Nat → Int32} {s : Nat} (h : s < 4) (hp : ∃ n, wX_pages_15 post (nI s) ck nu hs a1 a2 a3 a4 a5 a6 a7 a8 a9 a10 a11 a12 a13 a14 a15 a16 a17 n 0 0) : wpX_pages post (ck, nu, hs, a1, a2, a3, a4, a5, a6, a7, a8, a9, a10, a11, a12, a13, a14, a15, a16, a17) (nI s) := by
  unfold wpX_pages
  exact br_f (nI_pos (by omega)) (br_t (nI_le (a := s) (b := 3) (by omega) (by omega)) hp)
theorem zc_pgE {post : Int32 → Prop} {ck : Int64} {nu hs : Int32} {a1 a2 a3 a4 a5 a6 a7 : Nat → Int32} {a8 : Nat → Int64} {a9 a10 a11 a12 a13 a14 a15 a16 a17 : Nat → Int32} {s : Nat} (hs3 : s < 3) (h1 : ∀ j, j < 8 → a1 j = -1) (hp : post 0) : wpX_pages post (ck, nu, hs, a1, a2, a3, a4, a5, a6, a7, a8, a9, a10, a11, a12, a13, a14, a15, a16, a17) (nI s) :=
  zc_pgs (by omega) (zc_pg (fun _ => 0) (g := nI s) (Or.inr ⟨zc_ne3 hs3, rfl⟩) (fun i hi => Or.inr ⟨by rw [h1 i hi]; exact zc_ne1 hs3, rfl⟩) hp)
theorem zc_pgE3 {post : Int32 → Prop} {ck : Int64} {nu hs : Int32} {a1 a2 a3 a4 a5 a6 a7 : Nat → Int32} {a8 : Nat → Int64} {a9 a10 a11 a12 a13 a14 a15 a16 a17 : Nat → Int32} (h1 : ∀ j, j < 8 → a1 j = -1) (hp : post 8) : wpX_pages post (ck, nu, hs, a1, a2, a3, a4, a5, a6, a7, a8, a9, a10, a11, a12, a13, a14, a15, a16, a17) 3 :=
  zc_pgs (s := 3) (by omega) (zc_pg (fun i => i) (g := -1) (Or.inl ⟨rfl, rfl⟩) (fun i hi => Or.inl ⟨h1 i hi, rfl⟩) hp)
theorem zc_pgI {post : Int32 → Prop} {ck : Int64} {nu hs : Int32} {a1 a2 a3 a4 a5 a6 a7 : Nat → Int32} {a8 : Nat → Int64} {a9 a10 a11 a12 a13 a14 a15 a16 a17 : Nat → Int32} {s : Nat} (hs3 : s < 3) (h1 : a1 0 = nI s) (h1' : ∀ j, 0 < j → j < 8 → a1 j = -1) (hp : post 1) : wpX_pages post (ck, nu, hs, a1, a2, a3, a4, a5, a6, a7, a8, a9, a10, a11, a12, a13, a14, a15, a16, a17) (nI s) := by
  refine zc_pgs (by omega) (zc_pg (fun i => if i = 0 then 0 else 1) (g := nI s) (Or.inr ⟨zc_ne3 hs3, rfl⟩) (fun i hi => ?_) hp)
  by_cases z : i = 0
  · exact Or.inl ⟨by rw [z]; exact h1, by simp [z]⟩
  · exact Or.inr ⟨by rw [h1' i (by omega) hi]; exact zc_ne1 hs3, by simp [z]⟩
theorem zc_pgI3 {post : Int32 → Prop} {ck : Int64} {nu hs : Int32} {a1 a2 a3 a4 a5 a6 a7 : Nat → Int32} {a8 : Nat → Int64} {a9 a10 a11 a12 a13 a14 a15 a16 a17 : Nat → Int32} {s : Nat} (hs3 : s < 3) (h1 : a1 0 = nI s) (h1' : ∀ j, 0 < j → j < 8 → a1 j = -1) (hp : post 7) : wpX_pages post (ck, nu, hs, a1, a2, a3, a4, a5, a6, a7, a8, a9, a10, a11, a12, a13, a14, a15, a16, a17) 3 := by
  refine zc_pgs (s := 3) (by omega) (zc_pg (fun i => i - 1) (g := -1) (Or.inl ⟨rfl, rfl⟩) (fun i hi => ?_) hp)
  by_cases z : i = 0
  · exact Or.inr ⟨by rw [z, h1]; exact fun y => zc_ne1 hs3 y.symm, by omega⟩
  · exact Or.inl ⟨h1' i (by omega) hi, by omega⟩
theorem zc_addZ {post : Int32 → St2 → Prop} {u : St2} {p x : Int32} (h : zc_Z u) (hp : post 0 u) : wpX_add post u p x := by
  obtain ⟨ck, nu, hs, a1, a2, a3, a4, a5, a6, a7, a8, a9, a10, a11, a12, a13, a14, a15, a16, a17⟩ := u
  unfold wpX_add
  exact zc_findZ h (br_f zc_n0 hp)
theorem zc_addI {post : Int32 → St2 → Prop} {u : St2} {p x : Int32} {k c s : Nat} {v m w : Int32} {q e : Int64} {T : Nat} (h : zc_I k c s v m w q e T u) (hp : p = nI k → ∀ u', zc_I k c s (v + x) (w + 1) (w + 1) q e T u' → post (v + x) u') (hn : p ≠ nI k → post 0 u) : wpX_add post u p x := by
  obtain ⟨ck, nu, hs, a1, a2, a3, a4, a5, a6, a7, a8, a9, a10, a11, a12, a13, a14, a15, a16, a17⟩ := u
  have hI := h
  obtain ⟨hk, hc, hs3, hck, hnu, h1, h1', h5, rfl, h7, h8, h9, h9', h10, h11, h12, h13, h14, h15, hH⟩ := h
  unfold wpX_add
  refine zc_findI hI (fun z => br_t (nI_pos' (by omega)) ⟨pk_in c 32 (by omega), pk_in c 32 (by omega), ?_⟩) (fun z => br_f zc_n0 (hn z))
  rw [zc_cl (show c < 16 by omega)]
  have h0 : zc_I k c s (a6 c + x) m w q e T (ck, nu, hs, a1, a2, a3, a4, a5, upd a6 c (a6 c + x), a7, a8, a9, a10, a11, a12, a13, a14, a15, a16, a17) := ⟨hk, hc, hs3, hck, hnu, h1, h1', h5, pk_us, h7, h8, h9, h9', h10, h11, h12, h13, h14, h15, hH⟩
  refine nm_e (zc_use h0 (fun u' h' => ?_))
  obtain ⟨ck', nu', hs', a1', a2', a3', a4', a5', a6', a7', a8', a9', a10', a11', a12', a13', a14', a15', a16', a17'⟩ := u'
  refine zc_next h' (fun u' h3 => ?_)
  obtain ⟨ck'', nu'', hs'', a1'', a2'', a3'', a4'', a5'', a6'', a7'', a8'', a9'', a10'', a11'', a12'', a13'', a14'', a15'', a16'', a17''⟩ := u'
  refine ⟨pk_in c 32 (by omega), ?_⟩
  have h6 : a6'' c = a6 c + x := h3.2.2.2.2.2.2.2.2.1
  rw [h6]
  exact hp z _ h3
theorem zc_swapZ {post : Int32 → St2 → Prop} {u : St2} {p x y : Int32} (h : zc_Z u) (hp : post (-1) u) : wpX_swap post u p x y := by
  obtain ⟨ck, nu, hs, a1, a2, a3, a4, a5, a6, a7, a8, a9, a10, a11, a12, a13, a14, a15, a16, a17⟩ := u
  unfold wpX_swap
  refine zc_findZ h (br_t zc_n ?_)
  unfold wX_swap_23
  exact br_f zc_n0 hp
theorem zc_swapI {post : Int32 → St2 → Prop} {u : St2} {p y : Int32} {k c s : Nat} {v m w : Int32} {q e : Int64} {T : Nat} (h : zc_I k c s v m w q e T u) {x : Int32} (hp : p = nI k → m = x ∧ ∀ u', zc_I k c s y (w + 1) (w + 1) q e T u' → post 1 u') (hn : p ≠ nI k → post (-1) u) : wpX_swap post u p x y := by
  obtain ⟨ck, nu, hs, a1, a2, a3, a4, a5, a6, a7, a8, a9, a10, a11, a12, a13, a14, a15, a16, a17⟩ := u
  have hI := h
  obtain ⟨hk, hc, hs3, hck, hnu, h1, h1', h5, h6, h7, h8, h9, h9', h10, h11, h12, h13, h14, h15, hH⟩ := h
  unfold wpX_swap
  refine zc_findI hI (fun z => br_f (nI_pos (by omega)) ⟨pk_in c 32 (by omega), ?_⟩) (fun z => br_t zc_n ?_)
  · obtain ⟨hm, hp⟩ := hp z
    rw [zc_cl (show c < 16 by omega)]
    have h0 : zc_I k c s y m w q e T (ck, nu, hs, a1, a2, a3, a4, a5, upd a6 c y, a7, a8, a9, a10, a11, a12, a13, a14, a15, a16, a17) := ⟨hk, hc, hs3, hck, hnu, h1, h1', h5, pk_us, h7, h8, h9, h9', h10, h11, h12, h13, h14, h15, hH⟩
    refine br_t (h7.trans hm) ⟨pk_in c 32 (by omega), nm_e (zc_use h0 (fun u' h' => ?_))⟩
    obtain ⟨ck', nu', hs', a1', a2', a3', a4', a5', a6', a7', a8', a9', a10', a11', a12', a13', a14', a15', a16', a17'⟩ := u'
    refine zc_next h' (fun u' h3 => ?_)
    obtain ⟨ck'', nu'', hs'', a1'', a2'', a3'', a4'', a5'', a6'', a7'', a8'', a9'', a10'', a11'', a12'', a13'', a14'', a15'', a16'', a17''⟩ := u'
    exact hp _ h3
  · unfold wX_swap_23
    exact br_f zc_n0 (hn z)
theorem zc_getZ {post : Int32 → St2 → Prop} {u : St2} {p : Int32} (h : zc_Z u) (hp : post 0 u) : wpX_get post u p := by
  obtain ⟨ck, nu, hs, a1, a2, a3, a4, a5, a6, a7, a8, a9, a10, a11, a12, a13, a14, a15, a16, a17⟩ := u
  unfold wpX_get
  exact zc_findZ h (br_f zc_n0 hp)
theorem zc_getI {post : Int32 → St2 → Prop} {u : St2} {k c s : Nat} {v m w : Int32} {q e : Int64} {T : Nat} (h : zc_I k c s v m w q e T u) (hp : ∀ u', zc_I k c s v m w q e T u' → post v u') : wpX_get post u (nI k) := by
  obtain ⟨ck, nu, hs, a1, a2, a3, a4, a5, a6, a7, a8, a9, a10, a11, a12, a13, a14, a15, a16, a17⟩ := u
  have hc : c < 4 := h.2.1
  unfold wpX_get
  refine zc_findI h (fun z => br_t (nI_pos' (by omega)) (zc_use h (fun u' h' => ?_))) (fun z => absurd rfl z)
  obtain ⟨ck', nu', hs', a1', a2', a3', a4', a5', a6', a7', a8', a9', a10', a11', a12', a13', a14', a15', a16', a17'⟩ := u'
  refine ⟨pk_in c 32 (by omega), ?_⟩
  rw [zc_cl (show c < 16 by omega)]
  have h6 : a6' c = v := h'.2.2.2.2.2.2.2.2.1
  rw [h6]
  exact hp _ h'
theorem zc_tickZ {post : Int32 → St2 → Prop} {u : St2} {p : Int32} (h : zc_Z u) (hb : p < 0 ∨ 1000 < p → post (-1) u) (hg : ¬ p < 0 → ¬ 1000 < p → ∀ u', zc_Z u' → post 0 u') : wpX_tick post u p := by
  obtain ⟨ck, nu, hs, a1, a2, a3, a4, a5, a6, a7, a8, a9, a10, a11, a12, a13, a14, a15, a16, a17⟩ := u
  obtain ⟨rfl, h9⟩ := h
  unfold wpX_tick
  exact br_c (fun z => hb (Or.inl z)) (fun n1 => br_c (fun n2 => nm_e ⟨1, br_f (by decide) (br_t (by decide) (hg n1 (Int32.not_lt.mpr n2) _ ⟨rfl, h9⟩))⟩) (fun n2 => hb (Or.inr (Int32.not_le.mp n2))))
theorem zc_tickI {post : Int32 → St2 → Prop} {u : St2} {p : Int32} {k c s : Nat} {v m w : Int32} {q e : Int64} {T : Nat} (h : zc_I k c s v m w q e T u) (hb : p < 0 ∨ 1000 < p → post (-1) u) (h0 : ¬ p < 0 → ¬ 1000 < p → T = 0 → ∀ u', zc_I k c s v m w (q + p.toInt64) e T u' → post 0 u') (h1 : ¬ p < 0 → ¬ 1000 < p → T = 1 → q + p.toInt64 < e → ∀ u', zc_I k c s v m w (q + p.toInt64) e T u' → post 0 u') (h2 : ¬ p < 0 → ¬ 1000 < p → T = 1 → ¬ q + p.toInt64 < e → ∀ u', zc_Z u' → post 1 u') : wpX_tick post u p := by
  obtain ⟨ck, nu, hs, a1, a2, a3, a4, a5, a6, a7, a8, a9, a10, a11, a12, a13, a14, a15, a16, a17⟩ := u
  obtain ⟨hk, hc, hs3, rfl, hnu, g1, g1', h5, h6, h7, h8, h9, h9', h10, h11, h12, h13, h14, h15, hH⟩ := h
  have hJ : zc_I k c s v m w (ck + p.toInt64) e T (ck + p.toInt64, nu, hs, a1, a2, a3, a4, a5, a6, a7, a8, a9, a10, a11, a12, a13, a14, a15, a16, a17) := ⟨hk, hc, hs3, rfl, hnu, g1, g1', h5, h6, h7, h8, h9, h9', h10, h11, h12, h13, h14, h15, hH⟩
  unfold wpX_tick
  refine br_c (fun z => hb (Or.inl z)) (fun n1 => br_c (fun n2 => nm_e ⟨2, br_f (by decide) ?_⟩) (fun n2 => hb (Or.inr (Int32.not_le.mp n2))))
  have n3 : ¬ 1000 < p := Int32.not_lt.mpr n2
  rcases hH with ⟨hT, rfl, h17⟩ | ⟨hT, rfl, h16, h17⟩
  · exact br_t (by decide) (h0 n1 n3 hT _ hJ)
  · refine br_f (by decide) ?_
    rw [h16, zc_cl (show c < 16 by omega), h8]
    refine ⟨pk_in c 32 (by omega), br_c (fun z => h1 n1 n3 hT z _ hJ) (fun z => zc_give hJ (fun u' h' => ?_))⟩
    obtain ⟨ck', nu', hs', a1', a2', a3', a4', a5', a6', a7', a8', a9', a10', a11', a12', a13', a14', a15', a16', a17'⟩ := u'
    have hs0 : hs' = 0 := h'.1
    refine nm_r (e' := 1) (by decide) (nm_r (e' := 1) (by decide) (br_f (by decide) (br_t ?_ (h2 n1 n3 hT z _ h'))))
    rw [hs0]
    decide
theorem zc_touchB {post : Int32 → St2 → Prop} {u : St2} {p x : Int32} (hb : x < 0 ∨ 1000 < x) (hp : post (-1) u) : wpX_touch post u p x := by
  obtain ⟨ck, nu, hs, a1, a2, a3, a4, a5, a6, a7, a8, a9, a10, a11, a12, a13, a14, a15, a16, a17⟩ := u
  unfold wpX_touch
  refine br_c (fun _ => hp) (fun n1 => br_c (fun n2 => ?_) (fun _ => hp))
  rcases hb with z | z
  · exact absurd z n1
  · exact absurd z (Int32.not_lt.mpr n2)
theorem zc_touchZ {post : Int32 → St2 → Prop} {u : St2} {p x : Int32} (h : zc_Z u) (g1 : ¬ x < 0) (g2 : ¬ 1000 < x) (hp : post 0 u) : wpX_touch post u p x := by
  obtain ⟨ck, nu, hs, a1, a2, a3, a4, a5, a6, a7, a8, a9, a10, a11, a12, a13, a14, a15, a16, a17⟩ := u
  unfold wpX_touch
  exact br_f g1 (br_t (Int32.not_lt.mp g2) (zc_findZ h (br_f zc_n0 hp)))
theorem zc_touchI {post : Int32 → St2 → Prop} {u : St2} {x : Int32} {k c s : Nat} {v m w : Int32} {q e : Int64} {T : Nat} (h : zc_I k c s v m w q e T u) (g1 : ¬ x < 0) (g2 : ¬ 1000 < x) (hp : ∀ (e' : Int64) (T' : Nat) (u' : St2), zc_I k c s v m w q e' T' u' → post 1 u') : wpX_touch post u (nI k) x := by
  obtain ⟨ck, nu, hs, a1, a2, a3, a4, a5, a6, a7, a8, a9, a10, a11, a12, a13, a14, a15, a16, a17⟩ := u
  have hc : c < 4 := h.2.1
  unfold wpX_touch
  refine br_f g1 (br_t (Int32.not_lt.mp g2) (zc_findI h (fun z => br_t (nI_pos' (by omega)) (zc_use h (fun u' h' => ?_))) (fun z => absurd rfl z)))
  obtain ⟨ck', nu', hs', a1', a2', a3', a4', a5', a6', a7', a8', a9', a10', a11', a12', a13', a14', a15', a16', a17'⟩ := u'
  refine zc_setEnd h' (fun _ e' u' h3 => ?_) (fun _ u' h3 => ?_)
  · obtain ⟨ck'', nu'', hs'', a1'', a2'', a3'', a4'', a5'', a6'', a7'', a8'', a9'', a10'', a11'', a12'', a13'', a14'', a15'', a16'', a17''⟩ := u'
    exact hp _ _ _ h3
  · obtain ⟨ck'', nu'', hs'', a1'', a2'', a3'', a4'', a5'', a6'', a7'', a8'', a9'', a10'', a11'', a12'', a13'', a14'', a15'', a16'', a17''⟩ := u'
    exact hp _ _ _ h3
theorem zc_remZ {post : Int32 → St2 → Prop} {u : St2} {p : Int32} (h : zc_Z u) (hp : post 0 u) : wpX_remove post u p := by
  obtain ⟨ck, nu, hs, a1, a2, a3, a4, a5, a6, a7, a8, a9, a10, a11, a12, a13, a14, a15, a16, a17⟩ := u
  unfold wpX_remove
  exact zc_findZ h (br_f zc_n0 hp)
theorem zc_remI {post : Int32 → St2 → Prop} {u : St2} {k c s : Nat} {v m w : Int32} {q e : Int64} {T : Nat} (h : zc_I k c s v m w q e T u) (hp : ∀ u', post 1 u') : wpX_remove post u (nI k) := by
  obtain ⟨ck, nu, hs, a1, a2, a3, a4, a5, a6, a7, a8, a9, a10, a11, a12, a13, a14, a15, a16, a17⟩ := u
  have hc : c < 4 := h.2.1
  unfold wpX_remove
  refine zc_findI h (fun z => br_t (nI_pos' (by omega)) (zc_give h (fun u' h' => ?_))) (fun z => absurd rfl z)
  obtain ⟨ck', nu', hs', a1', a2', a3', a4', a5', a6', a7', a8', a9', a10', a11', a12', a13', a14', a15', a16', a17'⟩ := u'
  exact hp _
end
section
theorem zc_421Z {post : Int32 → St0 → Prop} {mc ms kc ks : Nat} (hp : post 1 ()) {ck : Int64} {nu hs : Int32} {a1 a2 a3 a4 a5 a6 a7 : Nat → Int32} {a8 : Nat → Int64} {a9 a10 a11 a12 a13 a14 a15 a16 a17 : Nat → Int32} {x0 x7 x11 z : Int32} (hx : x7 = 0 ∨ ¬ x11 = 0) (h : zc_Z (ck, nu, hs, a1, a2, a3, a4, a5, a6, a7, a8, a9, a10, a11, a12, a13, a14, a15, a16, a17)) : wL_lawOf_421 post mc ms x0 x7 x11 z z kc ks ck nu hs a1 a2 a3 a4 a5 a6 a7 a8 a9 a10 a11 a12 a13 a14 a15 a16 a17 := by
  have K : wL_lawOf_444 post mc ms 0 kc ks := by
    unfold wL_lawOf_444 wL_lawOf_445
    exact br_t rfl hp
  unfold wL_lawOf_421
  refine br_t rfl (zc_remZ h (br_c (fun _ => K) (fun y => br_c (fun y2 => ?_) (fun _ => K))))
  rcases hx with hx | hx
  · exact absurd hx y
  · exact absurd y2 hx
theorem zc_386B {post : Int32 → St0 → Prop} {mc ms kc ks : Nat} {ck : Int64} {nu hs : Int32} {a1 a2 a3 a4 a5 a6 a7 : Nat → Int32} {a8 : Nat → Int64} {a9 a10 a11 a12 a13 a14 a15 a16 a17 : Nat → Int32} {x0 x5 x7 x11 z : Int32} (hb : x5 < 0 ∨ 1000 < x5) (K : wL_lawOf_421 post mc ms x0 x7 x11 (-1) (-1) kc ks ck nu hs a1 a2 a3 a4 a5 a6 a7 a8 a9 a10 a11 a12 a13 a14 a15 a16 a17) : wL_lawOf_386 post mc ms x0 x5 x7 0 x11 z z kc ks ck nu hs a1 a2 a3 a4 a5 a6 a7 a8 a9 a10 a11 a12 a13 a14 a15 a16 a17 := by
  unfold wL_lawOf_386
  exact br_t rfl (zc_touchB hb (br_t rfl K))
theorem zc_386Z {post : Int32 → St0 → Prop} {mc ms kc ks : Nat} (hp : post 1 ()) {ck : Int64} {nu hs : Int32} {a1 a2 a3 a4 a5 a6 a7 : Nat → Int32} {a8 : Nat → Int64} {a9 a10 a11 a12 a13 a14 a15 a16 a17 : Nat → Int32} {x0 x5 x7 x11 z : Int32} (hx : x7 = 0 ∨ ¬ x11 = 0) (g1 : ¬ x5 < 0) (g2 : ¬ 1000 < x5) (h : zc_Z (ck, nu, hs, a1, a2, a3, a4, a5, a6, a7, a8, a9, a10, a11, a12, a13, a14, a15, a16, a17)) : wL_lawOf_386 post mc ms x0 x5 x7 1 x11 z z kc ks ck nu hs a1 a2 a3 a4 a5 a6 a7 a8 a9 a10 a11 a12 a13 a14 a15 a16 a17 := by
  have K : wL_lawOf_420 post mc ms x0 x7 x11 0 kc ks ck nu hs a1 a2 a3 a4 a5 a6 a7 a8 a9 a10 a11 a12 a13 a14 a15 a16 a17 := by
    unfold wL_lawOf_420
    exact zc_421Z hp hx h
  unfold wL_lawOf_386
  refine br_t rfl (zc_touchZ h g1 g2 (br_f (by decide) (br_c (fun _ => K) (fun y => br_c (fun y2 => ?_) (fun _ => K)))))
  rcases hx with hx | hx
  · exact absurd hx y
  · exact absurd y2 hx
theorem zc_358NB {post : Int32 → St0 → Prop} {mc ms kc ks : Nat} (hp : post 1 ()) {ck : Int64} {nu hs : Int32} {a1 a2 a3 a4 a5 a6 a7 : Nat → Int32} {a8 : Nat → Int64} {a9 a10 a11 a12 a13 a14 a15 a16 a17 : Nat → Int32} {x0 x5 : Int32} (hb : x5 < 0 ∨ 1000 < x5) (h : zc_Z (ck, nu, hs, a1, a2, a3, a4, a5, a6, a7, a8, a9, a10, a11, a12, a13, a14, a15, a16, a17)) : wL_lawOf_358 post mc ms x0 x5 0 0 0 kc ks ck nu hs a1 a2 a3 a4 a5 a6 a7 a8 a9 a10 a11 a12 a13 a14 a15 a16 a17 := by
  unfold wL_lawOf_358
  refine zc_tickZ h (fun _ => br_t rfl (zc_386B hb (zc_421Z hp (Or.inl rfl) h))) (fun g1 g2 => ?_)
  rcases hb with z | z
  · exact absurd z g1
  · exact absurd z g2
theorem zc_358NG {post : Int32 → St0 → Prop} {mc ms kc ks : Nat} (hp : post 1 ()) {ck : Int64} {nu hs : Int32} {a1 a2 a3 a4 a5 a6 a7 : Nat → Int32} {a8 : Nat → Int64} {a9 a10 a11 a12 a13 a14 a15 a16 a17 : Nat → Int32} {x0 x5 : Int32} (g1 : ¬ x5 < 0) (g2 : ¬ 1000 < x5) (h : zc_Z (ck, nu, hs, a1, a2, a3, a4, a5, a6, a7, a8, a9, a10, a11, a12, a13, a14, a15, a16, a17)) : wL_lawOf_358 post mc ms x0 x5 0 1 0 kc ks ck nu hs a1 a2 a3 a4 a5 a6 a7 a8 a9 a10 a11 a12 a13 a14 a15 a16 a17 := by
  unfold wL_lawOf_358
  refine zc_tickZ h (fun y => ?_) (fun _ _ u' h' => ?_)
  · rcases y with z | z
    · exact absurd z g1
    · exact absurd z g2
  · obtain ⟨ck', nu', hs', a1', a2', a3', a4', a5', a6', a7', a8', a9', a10', a11', a12', a13', a14', a15', a16', a17'⟩ := u'
    exact br_f (by decide) (br_t rfl (zc_386Z hp (Or.inl rfl) g1 g2 h'))
theorem zc_308N {post : Int32 → St0 → Prop} {mc ms kc ks : Nat} (hp : post 1 ()) {ck : Int64} {nu hs : Int32} {a1 a2 a3 a4 a5 a6 a7 : Nat → Int32} {a8 : Nat → Int64} {a9 a10 a11 a12 a13 a14 a15 a16 a17 : Nat → Int32} {x0 x3 x5 z : Int32} (h : zc_Z (ck, nu, hs, a1, a2, a3, a4, a5, a6, a7, a8, a9, a10, a11, a12, a13, a14, a15, a16, a17)) : wL_lawOf_308 post mc ms x0 x3 x5 0 z z kc ks ck nu hs a1 a2 a3 a4 a5 a6 a7 a8 a9 a10 a11 a12 a13 a14 a15 a16 a17 := by
  have B : x5 < 0 ∨ 1000 < x5 → wL_lawOf_330 post mc ms x0 x3 x5 0 kc ks ck nu hs a1 a2 a3 a4 a5 a6 a7 a8 a9 a10 a11 a12 a13 a14 a15 a16 a17 := by
    intro hb
    unfold wL_lawOf_330 wL_lawOf_331
    refine br_t rfl ?_
    unfold wL_lawOf_357
    exact zc_358NB hp hb h
  unfold wL_lawOf_308
  refine br_t rfl (br_c (fun y => B (Or.inl y)) (fun y1 => br_c (fun y => B (Or.inr y)) (fun y2 => ?_)))
  unfold wL_lawOf_331
  refine br_t rfl ?_
  unfold wL_lawOf_357
  exact zc_358NG hp y1 y2 h
theorem zc_231N {post : Int32 → St0 → Prop} {mc ms kc ks : Nat} (hp : post 1 ()) {ck : Int64} {nu hs : Int32} {a1 a2 a3 a4 a5 a6 a7 : Nat → Int32} {a8 : Nat → Int64} {a9 a10 a11 a12 a13 a14 a15 a16 a17 : Nat → Int32} {x0 x2 x3 x4 x5 z : Int32} (h : zc_Z (ck, nu, hs, a1, a2, a3, a4, a5, a6, a7, a8, a9, a10, a11, a12, a13, a14, a15, a16, a17)) : wL_lawOf_231 post mc ms x0 x2 x3 x4 x5 0 0 z z kc ks ck nu hs a1 a2 a3 a4 a5 a6 a7 a8 a9 a10 a11 a12 a13 a14 a15 a16 a17 := by
  unfold wL_lawOf_231
  refine br_t rfl (zc_addZ h (br_t rfl ?_))
  unfold wL_lawOf_256
  refine br_t rfl (zc_swapZ h (br_t rfl ?_))
  unfold wL_lawOf_279
  exact br_t rfl (zc_getZ h (br_t rfl (br_t rfl (zc_308N hp h))))
theorem zc_93N {post : Int32 → St0 → Prop} {mc ms kc ks : Nat} (hp : post 1 ()) {ck : Int64} {nu hs : Int32} {a1 a2 a3 a4 a5 a6 a7 : Nat → Int32} {a8 : Nat → Int64} {a9 a10 a11 a12 a13 a14 a15 a16 a17 : Nat → Int32} {x0 x2 x3 x4 x5 : Int32} {s : Nat} (hs3 : s < 3) (h : zc_E (ck, nu, hs, a1, a2, a3, a4, a5, a6, a7, a8, a9, a10, a11, a12, a13, a14, a15, a16, a17)) : wL_lawOf_93 post mc ms x0 x2 x3 x4 x5 0 (nI s) kc ks ck nu hs a1 a2 a3 a4 a5 a6 a7 a8 a9 a10 a11 a12 a13 a14 a15 a16 a17 := by
  obtain ⟨hck, hnu, hhs, h1, h2, h9, h11, h12, h15, h17⟩ := h
  have hZ : zc_Z (ck, nu, hs, a1, a2, a3, a4, a5, a6, a7, a8, a9, a10, a11, a12, a13, a14, a15, a16, a17) := ⟨hhs, h9⟩
  unfold wL_lawOf_93
  refine br_t rfl ?_
  unfold wL_lawOf_110 wL_lawOf_111
  refine zc_hasZ hZ (br_t rfl ?_)
  unfold wL_lawOf_130
  refine br_t rfl (zc_numZ hZ (br_t rfl ?_))
  unfold wL_lawOf_150
  refine br_t rfl (zc_items hs3 (h15 s hs3) (br_t rfl ?_))
  unfold wL_lawOf_170
  refine br_t rfl (zc_pgE hs3 h1 (br_t rfl ?_))
  unfold wL_lawOf_190
  refine br_t rfl (zc_oldE hs3 (h11 s hs3) (br_t rfl ?_))
  unfold wL_lawOf_210
  exact br_t rfl (zc_pgE3 h1 (br_t rfl (zc_231N hp hZ)))
theorem zc_68N {post : Int32 → St0 → Prop} {mc ms kc ks : Nat} (hp : post 1 ()) {ck : Int64} {nu hs : Int32} {a1 a2 a3 a4 a5 a6 a7 : Nat → Int32} {a8 : Nat → Int64} {a9 a10 a11 a12 a13 a14 a15 a16 a17 : Nat → Int32} {x0 x1 x2 x3 x4 x5 z : Int32} (h : zc_E (ck, nu, hs, a1, a2, a3, a4, a5, a6, a7, a8, a9, a10, a11, a12, a13, a14, a15, a16, a17)) : wL_lawOf_68 post mc ms x0 x1 x2 x3 x4 x5 0 z z kc ks ck nu hs a1 a2 a3 a4 a5 a6 a7 a8 a9 a10 a11 a12 a13 a14 a15 a16 a17 := by
  unfold wL_lawOf_68
  exact br_t rfl (br_c (fun _ => br_c (fun _ => zc_93N hp (s := 2) (by omega) h) (fun _ => zc_93N hp (s := 1) (by omega) h)) (fun _ => zc_93N hp (s := 0) (by omega) h))
end
section
theorem zc_421I {post : Int32 → St0 → Prop} {mc ms kc ks : Nat} (hp : post 1 ()) {ck : Int64} {nu hs : Int32} {a1 a2 a3 a4 a5 a6 a7 : Nat → Int32} {a8 : Nat → Int64} {a9 a10 a11 a12 a13 a14 a15 a16 a17 : Nat → Int32} {x7 x11 z : Int32} {k c s : Nat} {v m w : Int32} {q e : Int64} {T : Nat} (h7 : ¬ x7 = 0) (h11 : x11 = 0) (h : zc_I k c s v m w q e T (ck, nu, hs, a1, a2, a3, a4, a5, a6, a7, a8, a9, a10, a11, a12, a13, a14, a15, a16, a17)) : wL_lawOf_421 post mc ms (nI k) x7 x11 z z kc ks ck nu hs a1 a2 a3 a4 a5 a6 a7 a8 a9 a10 a11 a12 a13 a14 a15 a16 a17 := by
  unfold wL_lawOf_421
  refine br_t rfl (zc_remI h (fun u' => ?_))
  obtain ⟨ck', nu', hs', a1', a2', a3', a4', a5', a6', a7', a8', a9', a10', a11', a12', a13', a14', a15', a16', a17'⟩ := u'
  refine br_f h7 (br_t h11 ?_)
  unfold wL_lawOf_445
  exact br_t rfl hp
theorem zc_386I {post : Int32 → St0 → Prop} {mc ms kc ks : Nat} (hp : post 1 ()) {ck : Int64} {nu hs : Int32} {a1 a2 a3 a4 a5 a6 a7 : Nat → Int32} {a8 : Nat → Int64} {a9 a10 a11 a12 a13 a14 a15 a16 a17 : Nat → Int32} {x5 z : Int32} {k c s : Nat} {v m w : Int32} {q e : Int64} {T : Nat} (g1 : ¬ x5 < 0) (g2 : ¬ 1000 < x5) (h : zc_I k c s v m w q e T (ck, nu, hs, a1, a2, a3, a4, a5, a6, a7, a8, a9, a10, a11, a12, a13, a14, a15, a16, a17)) : wL_lawOf_386 post mc ms (nI k) x5 1 1 0 z z kc ks ck nu hs a1 a2 a3 a4 a5 a6 a7 a8 a9 a10 a11 a12 a13 a14 a15 a16 a17 := by
  unfold wL_lawOf_386
  refine br_t rfl (zc_touchI h g1 g2 (fun e' T' u' h' => ?_))
  obtain ⟨ck', nu', hs', a1', a2', a3', a4', a5', a6', a7', a8', a9', a10', a11', a12', a13', a14', a15', a16', a17'⟩ := u'
  exact br_f (by decide) (br_f (by decide) (br_t rfl (zc_421I hp (by decide) rfl h')))
theorem zc_358IB {post : Int32 → St0 → Prop} {mc ms kc ks : Nat} (hp : post 1 ()) {ck : Int64} {nu hs : Int32} {a1 a2 a3 a4 a5 a6 a7 : Nat → Int32} {a8 : Nat → Int64} {a9 a10 a11 a12 a13 a14 a15 a16 a17 : Nat → Int32} {x5 : Int32} {k c s : Nat} {v m w : Int32} {q e : Int64} {T : Nat} (hb : x5 < 0 ∨ 1000 < x5) (h : zc_I k c s v m w q e T (ck, nu, hs, a1, a2, a3, a4, a5, a6, a7, a8, a9, a10, a11, a12, a13, a14, a15, a16, a17)) : wL_lawOf_358 post mc ms (nI k) x5 1 0 0 kc ks ck nu hs a1 a2 a3 a4 a5 a6 a7 a8 a9 a10 a11 a12 a13 a14 a15 a16 a17 := by
  have A : ¬ x5 < 0 → ¬ 1000 < x5 → False := by
    intro g1 g2
    rcases hb with z | z
    · exact g1 z
    · exact g2 z
  unfold wL_lawOf_358
  exact zc_tickI h (fun _ => br_t rfl (zc_386B hb (zc_421I hp (by decide) rfl h))) (fun g1 g2 => (A g1 g2).elim) (fun g1 g2 => (A g1 g2).elim) (fun g1 g2 => (A g1 g2).elim)
theorem zc_358I0 {post : Int32 → St0 → Prop} {mc ms kc ks : Nat} (hp : post 1 ()) {ck : Int64} {nu hs : Int32} {a1 a2 a3 a4 a5 a6 a7 : Nat → Int32} {a8 : Nat → Int64} {a9 a10 a11 a12 a13 a14 a15 a16 a17 : Nat → Int32} {x5 : Int32} {k c s : Nat} {v m w : Int32} {q e : Int64} {T : Nat} (g1 : ¬ x5 < 0) (g2 : ¬ 1000 < x5) (hT : T = 0 ∨ q + x5.toInt64 < e) (h : zc_I k c s v m w q e T (ck, nu, hs, a1, a2, a3, a4, a5, a6, a7, a8, a9, a10, a11, a12, a13, a14, a15, a16, a17)) : wL_lawOf_358 post mc ms (nI k) x5 1 1 0 kc ks ck nu hs a1 a2 a3 a4 a5 a6 a7 a8 a9 a10 a11 a12 a13 a14 a15 a16 a17 := by
  unfold wL_lawOf_358
  refine zc_tickI h (fun y => ?_) (fun _ _ _ u' h' => ?_) (fun _ _ _ _ u' h' => ?_) (fun _ _ y1 y2 => ?_)
  · rcases y with z | z
    · exact absurd z g1
    · exact absurd z g2
  · obtain ⟨ck', nu', hs', a1', a2', a3', a4', a5', a6', a7', a8', a9', a10', a11', a12', a13', a14', a15', a16', a17'⟩ := u'
    exact br_f (by decide) (br_t rfl (zc_386I hp g1 g2 h'))
  · obtain ⟨ck', nu', hs', a1', a2', a3', a4', a5', a6', a7', a8', a9', a10', a11', a12', a13', a14', a15', a16', a17'⟩ := u'
    exact br_f (by decide) (br_t rfl (zc_386I hp g1 g2 h'))
  · rcases hT with z | z
    · exact absurd z (by omega)
    · exact absurd z y2
theorem zc_358I1 {post : Int32 → St0 → Prop} {mc ms kc ks : Nat} (hp : post 1 ()) {ck : Int64} {nu hs : Int32} {a1 a2 a3 a4 a5 a6 a7 : Nat → Int32} {a8 : Nat → Int64} {a9 a10 a11 a12 a13 a14 a15 a16 a17 : Nat → Int32} {x5 : Int32} {k c s : Nat} {v m w : Int32} {q e : Int64} {T : Nat} (g1 : ¬ x5 < 0) (g2 : ¬ 1000 < x5) (hT : T = 1) (hl : ¬ q + x5.toInt64 < e) (h : zc_I k c s v m w q e T (ck, nu, hs, a1, a2, a3, a4, a5, a6, a7, a8, a9, a10, a11, a12, a13, a14, a15, a16, a17)) : wL_lawOf_358 post mc ms (nI k) x5 1 1 1 kc ks ck nu hs a1 a2 a3 a4 a5 a6 a7 a8 a9 a10 a11 a12 a13 a14 a15 a16 a17 := by
  unfold wL_lawOf_358
  refine zc_tickI h (fun y => ?_) (fun _ _ y => absurd y (by omega)) (fun _ _ _ y => absurd y hl) (fun _ _ _ _ u' h' => ?_)
  · rcases y with z | z
    · exact absurd z g1
    · exact absurd z g2
  · obtain ⟨ck', nu', hs', a1', a2', a3', a4', a5', a6', a7', a8', a9', a10', a11', a12', a13', a14', a15', a16', a17'⟩ := u'
    exact br_f (by decide) (br_f (by decide) (zc_386Z hp (Or.inr (by decide)) g1 g2 h'))
theorem zc_308I {post : Int32 → St0 → Prop} {mc ms kc ks : Nat} (hp : post 1 ()) {ck : Int64} {nu hs : Int32} {a1 a2 a3 a4 a5 a6 a7 : Nat → Int32} {a8 : Nat → Int64} {a9 a10 a11 a12 a13 a14 a15 a16 a17 : Nat → Int32} {x3 x5 z : Int32} {k c s : Nat} {v m w : Int32} {e : Int64} {T : Nat} (hT : (x3 ≤ 0 ∧ T = 0) ∨ (¬ x3 ≤ 0 ∧ T = 1 ∧ e = x3.toInt64)) (h : zc_I k c s v m w 0 e T (ck, nu, hs, a1, a2, a3, a4, a5, a6, a7, a8, a9, a10, a11, a12, a13, a14, a15, a16, a17)) : wL_lawOf_308 post mc ms (nI k) x3 x5 1 z z kc ks ck nu hs a1 a2 a3 a4 a5 a6 a7 a8 a9 a10 a11 a12 a13 a14 a15 a16 a17 := by
  have B : x5 < 0 ∨ 1000 < x5 → wL_lawOf_330 post mc ms (nI k) x3 x5 1 kc ks ck nu hs a1 a2 a3 a4 a5 a6 a7 a8 a9 a10 a11 a12 a13 a14 a15 a16 a17 := by
    intro hb
    unfold wL_lawOf_330 wL_lawOf_331
    refine br_f (by decide) (br_t rfl ?_)
    unfold wL_lawOf_357
    exact zc_358IB hp hb h
  have G : ¬ x5 < 0 → ¬ 1000 < x5 → (T = 0 ∨ (0 : Int64) + x5.toInt64 < e) → wL_lawOf_357 post mc ms (nI k) x5 1 1 kc ks ck nu hs a1 a2 a3 a4 a5 a6 a7 a8 a9 a10 a11 a12 a13 a14 a15 a16 a17 := by
    intro g1 g2 y
    unfold wL_lawOf_357
    exact zc_358I0 hp g1 g2 y h
  unfold wL_lawOf_308
  refine br_t rfl (br_c (fun y => B (Or.inl y)) (fun y1 => br_c (fun y => B (Or.inr y)) (fun y2 => ?_)))
  unfold wL_lawOf_331
  refine br_f (by decide) (br_f (by decide) ?_)
  rcases hT with ⟨y3, hT⟩ | ⟨y3, hT, he⟩
  · exact br_t y3 (G y1 y2 (Or.inl hT))
  · refine br_f y3 (br_c (fun y4 => G y1 y2 (Or.inr ?_)) (fun y4 => zc_358I1 hp y1 y2 hT ?_ h))
    · rw [he, Int64.zero_add, zc_l]
      exact y4
    · rw [he, Int64.zero_add, zc_l]
      exact y4
theorem zc_279I {post : Int32 → St0 → Prop} {mc ms kc ks : Nat} (hp : post 1 ()) {ck : Int64} {nu hs : Int32} {a1 a2 a3 a4 a5 a6 a7 : Nat → Int32} {a8 : Nat → Int64} {a9 a10 a11 a12 a13 a14 a15 a16 a17 : Nat → Int32} {x2 x3 x5 x9 z : Int32} {k c s : Nat} {v m w : Int32} {e : Int64} {T : Nat} (hx : (x9 = 0 ∧ v = x2) ∨ (x9 = 1 ∧ v = 9)) (hT : (x3 ≤ 0 ∧ T = 0) ∨ (¬ x3 ≤ 0 ∧ T = 1 ∧ e = x3.toInt64)) (h : zc_I k c s v m w 0 e T (ck, nu, hs, a1, a2, a3, a4, a5, a6, a7, a8, a9, a10, a11, a12, a13, a14, a15, a16, a17)) : wL_lawOf_279 post mc ms (nI k) x2 x3 x5 1 x9 z z kc ks ck nu hs a1 a2 a3 a4 a5 a6 a7 a8 a9 a10 a11 a12 a13 a14 a15 a16 a17 := by
  unfold wL_lawOf_279
  refine br_t rfl (zc_getI h (fun u' h' => ?_))
  obtain ⟨ck', nu', hs', a1', a2', a3', a4', a5', a6', a7', a8', a9', a10', a11', a12', a13', a14', a15', a16', a17'⟩ := u'
  rcases hx with ⟨rfl, rfl⟩ | ⟨rfl, rfl⟩
  · exact br_t rfl (br_f (by decide) (zc_308I hp hT h'))
  · exact br_f (by decide) (zc_308I hp hT h')
theorem zc_256I {post : Int32 → St0 → Prop} {mc ms kc ks : Nat} (hp : post 1 ()) {ck : Int64} {nu hs : Int32} {a1 a2 a3 a4 a5 a6 a7 : Nat → Int32} {a8 : Nat → Int64} {a9 a10 a11 a12 a13 a14 a15 a16 a17 : Nat → Int32} {x2 x3 x4 x5 x9 z : Int32} {k c s : Nat} {v m w : Int32} {e : Int64} {T : Nat} (hx : (x9 = 0 ∧ x4 ≠ nI k ∧ v = x2) ∨ (x9 = 1 ∧ x4 = nI k ∧ m = 2)) (hT : (x3 ≤ 0 ∧ T = 0) ∨ (¬ x3 ≤ 0 ∧ T = 1 ∧ e = x3.toInt64)) (h : zc_I k c s v m w 0 e T (ck, nu, hs, a1, a2, a3, a4, a5, a6, a7, a8, a9, a10, a11, a12, a13, a14, a15, a16, a17)) : wL_lawOf_256 post mc ms (nI k) x2 x3 x4 x5 1 x9 z z kc ks ck nu hs a1 a2 a3 a4 a5 a6 a7 a8 a9 a10 a11 a12 a13 a14 a15 a16 a17 := by
  unfold wL_lawOf_256
  refine br_t rfl (zc_swapI h (fun y => ?_) (fun y => ?_))
  · rcases hx with ⟨_, n, _⟩ | ⟨rfl, _, hm⟩
    · exact absurd y n
    · refine ⟨hm, fun u' h' => ?_⟩
      obtain ⟨ck', nu', hs', a1', a2', a3', a4', a5', a6', a7', a8', a9', a10', a11', a12', a13', a14', a15', a16', a17'⟩ := u'
      exact br_f (by decide) (zc_279I hp (Or.inr ⟨rfl, rfl⟩) hT h')
  · rcases hx with ⟨rfl, _, hv⟩ | ⟨_, n, _⟩
    · exact br_t rfl (zc_279I hp (Or.inl ⟨rfl, hv⟩) hT h)
    · exact absurd n y
theorem zc_231I {post : Int32 → St0 → Prop} {mc ms kc ks : Nat} (hp : post 1 ()) {ck : Int64} {nu hs : Int32} {a1 a2 a3 a4 a5 a6 a7 : Nat → Int32} {a8 : Nat → Int64} {a9 a10 a11 a12 a13 a14 a15 a16 a17 : Nat → Int32} {x2 x3 x4 x5 x9 z : Int32} {k c s : Nat} {e : Int64} {T : Nat} (hx : (x9 = 0 ∧ x4 ≠ nI k) ∨ (x9 = 1 ∧ x4 = nI k)) (hT : (x3 ≤ 0 ∧ T = 0) ∨ (¬ x3 ≤ 0 ∧ T = 1 ∧ e = x3.toInt64)) (h : zc_I k c s x2 1 1 0 e T (ck, nu, hs, a1, a2, a3, a4, a5, a6, a7, a8, a9, a10, a11, a12, a13, a14, a15, a16, a17)) : wL_lawOf_231 post mc ms (nI k) x2 x3 x4 x5 1 x9 z z kc ks ck nu hs a1 a2 a3 a4 a5 a6 a7 a8 a9 a10 a11 a12 a13 a14 a15 a16 a17 := by
  unfold wL_lawOf_231
  refine br_t rfl (zc_addI h (fun y u' h' => ?_) (fun y => ?_))
  · obtain ⟨ck', nu', hs', a1', a2', a3', a4', a5', a6', a7', a8', a9', a10', a11', a12', a13', a14', a15', a16', a17'⟩ := u'
    rcases hx with ⟨_, n⟩ | ⟨rfl, _⟩
    · exact absurd y n
    · exact br_f (by decide) (zc_256I hp (Or.inr ⟨rfl, y, by decide⟩) hT h')
  · rcases hx with ⟨rfl, _⟩ | ⟨_, n⟩
    · exact br_t rfl (zc_256I hp (Or.inl ⟨rfl, y, rfl⟩) hT h)
    · exact absurd n y
theorem zc_150I {post : Int32 → St0 → Prop} {mc ms kc ks : Nat} (hp : post 1 ()) {ck : Int64} {nu hs : Int32} {a1 a2 a3 a4 a5 a6 a7 : Nat → Int32} {a8 : Nat → Int64} {a9 a10 a11 a12 a13 a14 a15 a16 a17 : Nat → Int32} {x2 x3 x4 x5 x9 z : Int32} {k c s : Nat} {e : Int64} {T : Nat} (hx : (x9 = 0 ∧ x4 ≠ nI k) ∨ (x9 = 1 ∧ x4 = nI k)) (hT : (x3 ≤ 0 ∧ T = 0) ∨ (¬ x3 ≤ 0 ∧ T = 1 ∧ e = x3.toInt64)) (h : zc_I k c s x2 1 1 0 e T (ck, nu, hs, a1, a2, a3, a4, a5, a6, a7, a8, a9, a10, a11, a12, a13, a14, a15, a16, a17)) : wL_lawOf_150 post mc ms (nI k) x2 x3 x4 x5 1 (nI s) x9 z z kc ks ck nu hs a1 a2 a3 a4 a5 a6 a7 a8 a9 a10 a11 a12 a13 a14 a15 a16 a17 := by
  have hI := h
  obtain ⟨hk, hc, hs3, hck, hnu, h1, h1', h5, h6, h7, h8, h9, h9', h10, h11, h12, h13, h14, h15, hH⟩ := h
  unfold wL_lawOf_150
  refine br_t rfl (zc_items hs3 h15 (br_f (by decide) ?_))
  unfold wL_lawOf_170
  refine br_t rfl (zc_pgI hs3 h1 h1' (br_f (by decide) ?_))
  unfold wL_lawOf_190
  refine br_t rfl (zc_oldI hs3 hc h11 h5 (br_f (by decide) ?_))
  unfold wL_lawOf_210
  exact br_t rfl (zc_pgI3 hs3 h1 h1' (br_f (by decide) (zc_231I hp hx hT hI)))
theorem zc_111I {post : Int32 → St0 → Prop} {mc ms kc ks : Nat} (hp : post 1 ()) {ck : Int64} {nu hs : Int32} {a1 a2 a3 a4 a5 a6 a7 : Nat → Int32} {a8 : Nat → Int64} {a9 a10 a11 a12 a13 a14 a15 a16 a17 : Nat → Int32} {x2 x3 x4 x5 x9 : Int32} {k c s : Nat} {e : Int64} {T : Nat} (hx : (x9 = 0 ∧ x4 ≠ nI k) ∨ (x9 = 1 ∧ x4 = nI k)) (hT : (x3 ≤ 0 ∧ T = 0) ∨ (¬ x3 ≤ 0 ∧ T = 1 ∧ e = x3.toInt64)) (h : zc_I k c s x2 1 1 0 e T (ck, nu, hs, a1, a2, a3, a4, a5, a6, a7, a8, a9, a10, a11, a12, a13, a14, a15, a16, a17)) : wL_lawOf_111 post mc ms (nI k) x2 x3 x4 x5 1 (nI s) x9 kc ks ck nu hs a1 a2 a3 a4 a5 a6 a7 a8 a9 a10 a11 a12 a13 a14 a15 a16 a17 := by
  have K : ∀ z : Int32, wL_lawOf_130 post mc ms (nI k) x2 x3 x4 x5 1 (nI s) x9 z z kc ks ck nu hs a1 a2 a3 a4 a5 a6 a7 a8 a9 a10 a11 a12 a13 a14 a15 a16 a17 := by
    intro z
    unfold wL_lawOf_130
    refine br_t rfl (zc_numI h (fun y => ?_) (fun y => ?_))
    · rcases hx with ⟨_, n⟩ | ⟨rfl, _⟩
      · exact absurd y n
      · exact br_f (by decide) (zc_150I hp (Or.inr ⟨rfl, y⟩) hT h)
    · rcases hx with ⟨rfl, _⟩ | ⟨_, n⟩
      · exact br_t rfl (zc_150I hp (Or.inl ⟨rfl, y⟩) hT h)
      · exact absurd n y
  unfold wL_lawOf_111
  refine zc_hasI h (fun y => ?_) (fun y => ?_)
  · rcases hx with ⟨_, n⟩ | ⟨rfl, _⟩
    · exact absurd y n
    · exact br_f (by decide) (K 1)
  · rcases hx with ⟨rfl, _⟩ | ⟨_, n⟩
    · exact br_t rfl (K 0)
    · exact absurd n y
theorem zc_93I {post : Int32 → St0 → Prop} {mc ms kc ks : Nat} (hp : post 1 ()) {ck : Int64} {nu hs : Int32} {a1 a2 a3 a4 a5 a6 a7 : Nat → Int32} {a8 : Nat → Int64} {a9 a10 a11 a12 a13 a14 a15 a16 a17 : Nat → Int32} {x2 x3 x4 x5 : Int32} {k c s : Nat} {e : Int64} {T : Nat} (hT : (x3 ≤ 0 ∧ T = 0) ∨ (¬ x3 ≤ 0 ∧ T = 1 ∧ e = x3.toInt64)) (h : zc_I k c s x2 1 1 0 e T (ck, nu, hs, a1, a2, a3, a4, a5, a6, a7, a8, a9, a10, a11, a12, a13, a14, a15, a16, a17)) : wL_lawOf_93 post mc ms (nI k) x2 x3 x4 x5 1 (nI s) kc ks ck nu hs a1 a2 a3 a4 a5 a6 a7 a8 a9 a10 a11 a12 a13 a14 a15 a16 a17 := by
  unfold wL_lawOf_93
  refine br_f (by decide) (br_c (fun y => zc_111I hp (Or.inr ⟨rfl, y⟩) hT h) (fun y => ?_))
  unfold wL_lawOf_110
  exact zc_111I hp (Or.inl ⟨rfl, y⟩) hT h
theorem zc_68I {post : Int32 → St0 → Prop} {mc ms kc ks : Nat} (hp : post 1 ()) {ck : Int64} {nu hs : Int32} {a1 a2 a3 a4 a5 a6 a7 : Nat → Int32} {a8 : Nat → Int64} {a9 a10 a11 a12 a13 a14 a15 a16 a17 : Nat → Int32} {x1 x2 x3 x4 x5 z : Int32} {k c s : Nat} {e : Int64} {T : Nat} (hl : (3 < x1 ∧ 6 < x1 ∧ s = 2) ∨ (3 < x1 ∧ ¬ 6 < x1 ∧ s = 1) ∨ (¬ 3 < x1 ∧ s = 0)) (hT : (x3 ≤ 0 ∧ T = 0) ∨ (¬ x3 ≤ 0 ∧ T = 1 ∧ e = x3.toInt64)) (h : zc_I k c s x2 1 1 0 e T (ck, nu, hs, a1, a2, a3, a4, a5, a6, a7, a8, a9, a10, a11, a12, a13, a14, a15, a16, a17)) : wL_lawOf_68 post mc ms (nI k) x1 x2 x3 x4 x5 1 z z kc ks ck nu hs a1 a2 a3 a4 a5 a6 a7 a8 a9 a10 a11 a12 a13 a14 a15 a16 a17 := by
  unfold wL_lawOf_68
  rcases hl with ⟨l3, l6, rfl⟩ | ⟨l3, l6, rfl⟩ | ⟨l3, rfl⟩
  · exact br_t rfl (br_t l3 (br_t l6 (zc_93I hp hT h)))
  · exact br_t rfl (br_t l3 (br_f l6 (zc_93I hp hT h)))
  · exact br_t rfl (br_f l3 (zc_93I hp hT h))
end
section
theorem zc_lawOf {post : Int32 → St0 → Prop} (hp : post 1 ()) (p0 p1 p2 p3 p4 p5 : Int32) : wpL_lawOf post 246 3936 () p0 p1 p2 p3 p4 p5 := by
  unfold wpL_lawOf
  refine ⟨by omega, by omega, 17, 388, by omega, by omega, zc_init (fun u h => ?_)⟩
  obtain ⟨ck, nu, hs, a1, a2, a3, a4, a5, a6, a7, a8, a9, a10, a11, a12, a13, a14, a15, a16, a17⟩ := u
  have bad : (p0 < 0 ∨ 255 < p0 ∨ p1 < 1 ∨ 12 < p1 ∨ p3 < 0 ∨ 1000 < p3) → wL_lawOf_46 post 246 3936 p0 p1 p2 p3 p4 p5 (1 + 17) (20 + 388) ck nu hs a1 a2 a3 a4 a5 a6 a7 a8 a9 a10 a11 a12 a13 a14 a15 a16 a17 := by
    intro hb
    unfold wL_lawOf_46 wL_lawOf_47
    exact zc_storeN hb (br_t rfl (zc_68N hp h))
  refine br_c (fun z => bad (Or.inl z)) (fun n1 => br_c (fun z => bad (Or.inr (Or.inl z))) (fun n2 => br_c (fun z => bad (Or.inr (Or.inr (Or.inl z)))) (fun n3 => br_c (fun z => bad (Or.inr (Or.inr (Or.inr (Or.inl z))))) (fun n4 => br_c (fun z => bad (Or.inr (Or.inr (Or.inr (Or.inr (Or.inl z)))))) (fun n5 => br_c (fun z => bad (Or.inr (Or.inr (Or.inr (Or.inr (Or.inr z)))))) (fun n6 => ?_))))))
  obtain ⟨k, hk, rfl⟩ := nI_of2 (M := 255) (n := 255) (by decide) n1 (Int32.not_lt.mp n2)
  unfold wL_lawOf_47
  refine zc_store (by omega) h n3 n4 n5 n6 (fun s c e T u' hl hT hI => ?_)
  obtain ⟨ck', nu', hs', a1', a2', a3', a4', a5', a6', a7', a8', a9', a10', a11', a12', a13', a14', a15', a16', a17'⟩ := u'
  exact br_f (by decide) (zc_68I hp hl hT hI)
theorem zc_cell {post : Int32 → Prop} {L : Nat} {xs : Nat → Int32} (i : Nat) (hL : L ≤ 6) (hi : i < 6) (hp : ∀ x, post x) : wpL_cellAt post L xs () (nI i) := by
  unfold wpL_cellAt
  exact pk_le L i (fun _ => hp _) (fun z => ⟨pk_in i L z, hp _⟩)
theorem i_vc (xs : Nat → Int32) (L : Nat) (hL : L ≤ 6) : wpL_law (fun r => r = 1) L xs := by
  unfold wpL_law
  exact zc_cell 0 hL (by omega) (fun r1 => zc_cell 1 hL (by omega) (fun r2 => zc_cell 2 hL (by omega) (fun r3 => zc_cell 3 hL (by omega) (fun r4 => zc_cell 4 hL (by omega) (fun r5 => zc_cell 5 hL (by omega) (fun r6 => ⟨246, 3936, by omega, by omega, zc_lawOf rfl r1 r2 r3 r4 r5 r6⟩))))))
end
