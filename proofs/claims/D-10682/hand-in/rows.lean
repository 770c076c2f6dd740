section
/-- one step of the walk: an array as it reads, a place in range, a division by two -/
theorem tw_u (f : Nat → Int32) (k : Nat) (x : Int32) (j : Nat) : upd f k x j = if j = k then x else f j := rfl
theorem tw_in {x : Int32} {n : Nat} {P : Prop} (h : vp_in x n) (p : P) : vp_in x n ∧ P := ⟨h, p⟩
theorem tw_n2 {P : Prop} (p : P) : ¬ (2 : Int32) = 0 ∧ P := ⟨by decide, p⟩
theorem tw_pe {post : Int32 → St2 → Prop} {r r' : Int32} {u : St2} (e : r = r') (h : post r' u) : post r u := by rw [e]; exact h
theorem tw_pi {post : Int32 → Prop} {r r' : Int32} (e : r = r') (h : post r') : post r := by rw [e]; exact h
theorem tw_s32_5 : ((32 : Int32) >>> ((5 : Int32) &&& 31)) = 1 := by decide
theorem tw_s32_4 : ((32 : Int32) >>> ((4 : Int32) &&& 31)) = 2 := by decide
theorem tw_s32_3 : ((32 : Int32) >>> ((3 : Int32) &&& 31)) = 4 := by decide
theorem tw_s32_2 : ((32 : Int32) >>> ((2 : Int32) &&& 31)) = 8 := by decide
theorem tw_s32_1 : ((32 : Int32) >>> ((1 : Int32) &&& 31)) = 16 := by decide
theorem tw_s33_5 : ((33 : Int32) >>> ((5 : Int32) &&& 31)) = 1 := by decide
theorem tw_s33_4 : ((33 : Int32) >>> ((4 : Int32) &&& 31)) = 2 := by decide
theorem tw_s33_3 : ((33 : Int32) >>> ((3 : Int32) &&& 31)) = 4 := by decide
theorem tw_s33_2 : ((33 : Int32) >>> ((2 : Int32) &&& 31)) = 8 := by decide
theorem tw_s33_1 : ((33 : Int32) >>> ((1 : Int32) &&& 31)) = 16 := by decide
theorem tw_s32_0 : ((32 : Int32) >>> ((0 : Int32) &&& 31)) = 32 := by decide
theorem tw_s34_1 : ((34 : Int32) >>> ((1 : Int32) &&& 31)) = 17 := by decide
theorem tw_s17_1 : ((17 : Int32) >>> ((1 : Int32) &&& 31)) = 8 := by decide
theorem tw_s16_1 : ((16 : Int32) >>> ((1 : Int32) &&& 31)) = 8 := by decide
theorem tw_s8_1 : ((8 : Int32) >>> ((1 : Int32) &&& 31)) = 4 := by decide
theorem tw_s4_1 : ((4 : Int32) >>> ((1 : Int32) &&& 31)) = 2 := by decide
theorem tw_s2_1 : ((2 : Int32) >>> ((1 : Int32) &&& 31)) = 1 := by decide
theorem tw_s1_1 : ((1 : Int32) >>> ((1 : Int32) &&& 31)) = 0 := by decide
theorem tw_m32 : ((32 : Int32) &&& 1) = 0 := by decide
theorem tw_m33 : ((33 : Int32) &&& 1) = 1 := by decide
theorem tw_m34 : ((34 : Int32) &&& 1) = 0 := by decide
theorem tw_m16 : ((16 : Int32) &&& 1) = 0 := by decide
theorem tw_m17 : ((17 : Int32) &&& 1) = 1 := by decide
end
section
section
variable {c l rs rm : Int32} {a1 a2 a3 a4 a5 a6 a7 a8 a9 a10 a11 a12 a13 a14 a15 a16 a17 a18 a19 a20 a21 a22 a23 a24 a25 : Nat → Int32}
variable {post : St2 → Prop}
theorem tw_link1 (H : ∀ b2 : Nat → Int32, b2 0 = -1 → post (1, l, rs, rm, a1, b2, a3, a4, a5, a6, a7, a8, a9, a10, a11, a12, a13, a14, a15, a16, a17, a18, a19, a20, a21, a22, a23, a24, a25)) : wpX_linkChildren post (1, l, rs, rm, a1, a2, a3, a4, a5, a6, a7, a8, a9, a10, a11, a12, a13, a14, a15, a16, a17, a18, a19, a20, a21, a22, a23, a24, a25) := by
  repeat (first
    | (refine tw_in ?_ ?_; (focus (simp [vp_in, tw_u]; done)))
    | refine tw_n2 ?_
    | (refine br_t ?_ ?_; (focus (simp [tw_u]; done)))
    | (refine br_f ?_ ?_; (focus (simp [tw_u]; done)))
    | (intro x_ hx_; (try simp [tw_u] at hx_); subst hx_)
    | refine Exists.intro 9 ?_)
  exact H _ (by simp [tw_u])
theorem tw_link2 (h1 : a1 1 = 0) (H : ∀ b2 b3 : Nat → Int32, b2 0 = 1 → b2 1 = -1 → b3 1 = -1 → post (2, l, rs, rm, a1, b2, b3, a4, a5, a6, a7, a8, a9, a10, a11, a12, a13, a14, a15, a16, a17, a18, a19, a20, a21, a22, a23, a24, a25)) : wpX_linkChildren post (2, l, rs, rm, a1, a2, a3, a4, a5, a6, a7, a8, a9, a10, a11, a12, a13, a14, a15, a16, a17, a18, a19, a20, a21, a22, a23, a24, a25) := by
  repeat (first
    | (refine tw_in ?_ ?_; (focus (simp [vp_in, tw_u, h1]; done)))
    | refine tw_n2 ?_
    | (refine br_t ?_ ?_; (focus (simp [tw_u, h1]; done)))
    | (refine br_f ?_ ?_; (focus (simp [tw_u, h1]; done)))
    | (intro x_ hx_; (try simp [tw_u, h1] at hx_); subst hx_)
    | refine Exists.intro 9 ?_)
  exact H _ _ (by simp [tw_u]) (by simp [tw_u]) (by simp [tw_u])
theorem tw_meas1 (h2 : a2 0 = -1) (H : ∀ b5 b6 b7 b8 : Nat → Int32, b6 0 = 1 → b7 0 = 0 → b8 0 = -1 → post (1, l, rs, rm, a1, a2, a3, a4, b5, b6, b7, b8, a9, a10, a11, a12, a13, a14, a15, a16, a17, a18, a19, a20, a21, a22, a23, a24, a25)) : wpX_measure post (1, l, rs, rm, a1, a2, a3, a4, a5, a6, a7, a8, a9, a10, a11, a12, a13, a14, a15, a16, a17, a18, a19, a20, a21, a22, a23, a24, a25) := by
  repeat (first
    | (refine tw_in ?_ ?_; (focus (simp [vp_in, tw_u, h2]; done)))
    | refine tw_n2 ?_
    | (refine br_t ?_ ?_; (focus (simp [tw_u, h2]; done)))
    | (refine br_f ?_ ?_; (focus (simp [tw_u, h2]; done)))
    | (intro x_ hx_; (try simp [tw_u, h2] at hx_); subst hx_)
    | refine Exists.intro 9 ?_)
  exact H _ _ _ _ (by simp [tw_u]) (by simp [tw_u]) (by simp [tw_u])
theorem tw_meas2 (h1 : a1 1 = 0) (h2 : a2 0 = 1) (h3 : a2 1 = -1) (h4 : a3 1 = -1) (H : ∀ b5 b6 b7 b8 : Nat → Int32, b6 0 = 2 → b6 1 = 1 → b7 0 = 0 → b7 1 = 1 → b8 0 = 1 → b8 1 = -1 → post (2, l, rs, rm, a1, a2, a3, a4, b5, b6, b7, b8, a9, a10, a11, a12, a13, a14, a15, a16, a17, a18, a19, a20, a21, a22, a23, a24, a25)) : wpX_measure post (2, l, rs, rm, a1, a2, a3, a4, a5, a6, a7, a8, a9, a10, a11, a12, a13, a14, a15, a16, a17, a18, a19, a20, a21, a22, a23, a24, a25) := by
  repeat (first
    | (refine tw_in ?_ ?_; (focus (simp [vp_in, tw_u, h1, h2, h3, h4]; done)))
    | refine tw_n2 ?_
    | (refine br_t ?_ ?_; (focus (simp [tw_u, h1, h2, h3, h4]; done)))
    | (refine br_f ?_ ?_; (focus (simp [tw_u, h1, h2, h3, h4]; done)))
    | (intro x_ hx_; (try simp [tw_u, h1, h2, h3, h4] at hx_); subst hx_)
    | refine Exists.intro 9 ?_)
  exact H _ _ _ _ (by simp [tw_u]) (by simp [tw_u]) (by simp [tw_u]) (by simp [tw_u]) (by simp [tw_u]) (by simp [tw_u])
theorem tw_row1 (h2 : a2 0 = -1) (h3 : a8 0 = -1) (H : ∀ b9 b10 b11 b12 : Nat → Int32, b9 0 = 0 → b10 0 = 0 → b11 0 = 0 → post (1, l, rs, rm, a1, a2, a3, a4, a5, a6, a7, a8, b9, b10, b11, b12, a13, a14, a15, a16, a17, a18, a19, a20, a21, a22, a23, a24, a25)) : wpX_layRow post (1, l, rs, rm, a1, a2, a3, a4, a5, a6, a7, a8, a9, a10, a11, a12, a13, a14, a15, a16, a17, a18, a19, a20, a21, a22, a23, a24, a25) := by
  repeat (first
    | (refine tw_in ?_ ?_; (focus (simp [vp_in, tw_u, h2, h3]; done)))
    | refine tw_n2 ?_
    | (refine br_t ?_ ?_; (focus (simp [tw_u, h2, h3]; done)))
    | (refine br_f ?_ ?_; (focus (simp [tw_u, h2, h3]; done)))
    | (intro x_ hx_; (try simp [tw_u, h2, h3] at hx_); subst hx_)
    | refine Exists.intro 9 ?_)
  exact H _ _ _ _ (by simp [tw_u]) (by simp [tw_u]) (by simp [tw_u])
theorem tw_row2 (h2 : a2 0 = 1) (h3 : a2 1 = -1) (h4 : a3 1 = -1) (h5 : a8 0 = 1) (h6 : a8 1 = -1) (H : ∀ b9 b10 b11 b12 : Nat → Int32, b9 0 = 0 → b9 1 = 0 → b10 0 = 0 → b10 1 = 1 → b11 0 = 0 → b11 1 = 1 → post (2, l, rs, rm, a1, a2, a3, a4, a5, a6, a7, a8, b9, b10, b11, b12, a13, a14, a15, a16, a17, a18, a19, a20, a21, a22, a23, a24, a25)) : wpX_layRow post (2, l, rs, rm, a1, a2, a3, a4, a5, a6, a7, a8, a9, a10, a11, a12, a13, a14, a15, a16, a17, a18, a19, a20, a21, a22, a23, a24, a25) := by
  repeat (first
    | (refine tw_in ?_ ?_; (focus (simp [vp_in, tw_u, h2, h3, h4, h5, h6]; done)))
    | refine tw_n2 ?_
    | (refine br_t ?_ ?_; (focus (simp [tw_u, h2, h3, h4, h5, h6]; done)))
    | (refine br_f ?_ ?_; (focus (simp [tw_u, h2, h3, h4, h5, h6]; done)))
    | (intro x_ hx_; (try simp [tw_u, h2, h3, h4, h5, h6] at hx_); subst hx_)
    | refine Exists.intro 9 ?_)
  exact H _ _ _ _ (by simp [tw_u]) (by simp [tw_u]) (by simp [tw_u]) (by simp [tw_u]) (by simp [tw_u]) (by simp [tw_u])
end
end
section
section
variable {c l rs rm : Int32} {a1 a2 a3 a4 a5 a6 a7 a8 a9 a10 a11 a12 a13 a14 a15 a16 a17 a18 a19 a20 a21 a22 a23 a24 a25 : Nat → Int32}
variable {post : St2 → Prop}
theorem tw_join (k : Nat) (hk : k < 32) (H : ∀ b13 b14 : Nat → Int32, (∀ j, j ≠ k → b13 j = a13 j) → post (c, l, rs, rm, a1, a2, a3, a4, a5, a6, a7, a8, a9, a10, a11, a12, b13, b14, a15, a16, a17, a18, a19, a20, a21, a22, a23, a24, a25)) : wpX_join post (c, l, rs, rm, a1, a2, a3, a4, a5, a6, a7, a8, a9, a10, a11, a12, a13, a14, a15, a16, a17, a18, a19, a20, a21, a22, a23, a24, a25) (nI k) := by
  have e2 : 2 * nI k = nI (2 * k) := pk_mul 2 k
  have e3 : 2 * nI k + 1 = nI (2 * k + 1) := by rw [e2]; exact nI_1 _
  have i2 : vp_in (2 * nI k) 64 := pk_in (2 * k) 64 (by omega) e2
  have i3 : vp_in (2 * nI k + 1) 64 := pk_in (2 * k + 1) 64 (by omega) e3
  have i1 : vp_in (nI k) 64 := pk_in k 64 (by omega)
  have ec : (nI k).toNatClampNeg = k := nI_clamp (by omega)
  refine ⟨i2, i3, i1, nm_e ⟨i2, i3, br_c (fun _ => ⟨i3, i1, nm_e (H _ _ (fun j hj => ?_))⟩) (fun _ => ⟨i2, i1, nm_e (H _ _ (fun j hj => ?_))⟩)⟩⟩
  · rw [ec]; exact pk_un hj
  · rw [ec]; exact pk_un hj
/-- nothing is pending above the first two places of the row -/
def tw_pd (f : Nat → Int32) : Prop := f 1 = 0 ∧ f 2 = 0 ∧ f 4 = 0 ∧ f 8 = 0
theorem tw_f113 (h : tw_pd a15) (h16 : a15 16 = 0) (H : ∀ b15 : Nat → Int32, tw_pd b15 → b15 16 = 0 → post (c, l, rs, rm, a1, a2, a3, a4, a5, a6, a7, a8, a9, a10, a11, a12, a13, a14, b15, a16, a17, a18, a19, a20, a21, a22, a23, a24, a25)) : ∃ n, wX_fillRow_113 post c l rs rm n 32 a1 a2 a3 a4 a5 a6 a7 a8 a9 a10 a11 a12 a13 a14 a15 a16 a17 a18 a19 a20 a21 a22 a23 a24 a25 :=
  pk_loop (fun n i s => wX_fillRow_113 post c l rs rm n (nI i) a1 a2 a3 a4 a5 a6 a7 a8 a9 a10 a11 a12 a13 a14 s a16 a17 a18 a19 a20 a21 a22 a23 a24 a25) (fun i s => 32 ≤ i ∧ tw_pd s ∧ s 16 = 0) 64 32 a15 (by omega) ⟨Nat.le_refl 32, h, h16⟩
    (fun n s h => pk_le 64 64 (fun _ => H s h.2.1 h.2.2) (fun z => absurd z (by omega)))
    (fun n i s hi h hw => pk_le 64 i (fun z => absurd z (by omega)) (fun _ => ⟨pk_in i 64 (by omega), nm_e (nm_r (nI_1 i) (hw _ (by
      obtain ⟨hi2, ⟨h1, h2, h4, h8⟩, h16⟩ := h
      rw [nI_clamp (by omega)]
      exact ⟨by omega, ⟨by rw [pk_un (by omega)]; exact h1, by rw [pk_un (by omega)]; exact h2, by rw [pk_un (by omega)]; exact h4, by rw [pk_un (by omega)]; exact h8⟩, by rw [pk_un (by omega)]; exact h16⟩)))⟩))
theorem tw_f88 (m : Nat) (hm : m ≤ 24) (H : ∀ b13 b14 b15 : Nat → Int32, (∀ j, j < m → b13 (32 + j) = a13 (32 + j)) → tw_pd b15 → b15 16 = 0 → post (c, l, rs, rm, a1, a2, a3, a4, a5, a6, a7, a8, a9, a10, a11, a12, b13, b14, b15, a16, a17, a18, a19, a20, a21, a22, a23, a24, a25)) : ∃ n, wX_fillRow_88 post n 31 c l rs rm a1 a2 a3 a4 a5 a6 a7 a8 a9 a10 a11 a12 a13 a14 a15 a16 a17 a18 a19 a20 a21 a22 a23 a24 a25 :=
  ⟨32, pk_loopD (fun n i (s : (Nat → Int32) × (Nat → Int32) × (Nat → Int32)) => wX_fillRow_88 post n (nI i) c l rs rm a1 a2 a3 a4 a5 a6 a7 a8 a9 a10 a11 a12 s.1 s.2.1 s.2.2 a16 a17 a18 a19 a20 a21 a22 a23 a24 a25)
    (fun i s => i ≤ 31 ∧ (∀ j, j < m → s.1 (32 + j) = a13 (32 + j)) ∧ ∀ j, i < j → j < 32 → s.2.2 j = 0)
    (fun n s h => pk_le 0 0 (fun _ => tw_f113 ⟨h.2.2 1 (by omega) (by omega), h.2.2 2 (by omega) (by omega), h.2.2 4 (by omega) (by omega), h.2.2 8 (by omega) (by omega)⟩ (h.2.2 16 (by omega) (by omega)) (fun b15 p q => H _ _ _ h.2.1 p q)) (fun z => absurd z (by omega)))
    (fun n i s h hw => by
      have hi : i + 1 ≤ 31 := h.1
      exact pk_le (i + 1) 0 (fun z => absurd z (by omega)) (fun _ => ⟨pk_in (i + 1) 64 (by omega), nm_e (tw_join (i + 1) (by omega) (fun b13 b14 hj => nm_r (pk_m1 i) (hw (b13, b14, _) ⟨by omega, fun j hj2 => by
        show b13 (32 + j) = _
        rw [hj (32 + j) (by omega)]
        exact h.2.1 j hj2, fun j h1 h2 => by
        rw [nI_clamp (by omega)]
        by_cases e : j = i + 1
        · rw [e]; exact pk_us
        · show upd s.2.2 (i + 1) 0 j = 0
          rw [pk_un e]; exact h.2.2 j (by omega) h2⟩)))⟩))
    31 (a13, a14, a15) ⟨Nat.le_refl 31, fun j _ => rfl, fun j h1 h2 => absurd h1 (by omega)⟩⟩
theorem tw_fill (m : Nat) (hm : m ≤ 24) (ha : ∀ j, j < m → a11 j = nI j) (H : ∀ b13 b14 b15 : Nat → Int32, (∀ j, j < m → b13 (32 + j) = a4 j) → tw_pd b15 → b15 16 = 0 → post ((nI m), l, rs, rm, a1, a2, a3, a4, a5, a6, a7, a8, a9, a10, a11, a12, b13, b14, b15, a16, a17, a18, a19, a20, a21, a22, a23, a24, a25)) : wpX_fillRow post ((nI m), l, rs, rm, a1, a2, a3, a4, a5, a6, a7, a8, a9, a10, a11, a12, a13, a14, a15, a16, a17, a18, a19, a20, a21, a22, a23, a24, a25) :=
  pk_loop (fun n i (s : (Nat → Int32) × (Nat → Int32)) => wX_fillRow_2 post (nI m) l rs rm n (nI i) a1 a2 a3 a4 a5 a6 a7 a8 a9 a10 a11 a12 s.1 s.2 a15 a16 a17 a18 a19 a20 a21 a22 a23 a24 a25) (fun i s => ∀ j, j < i → j < m → s.1 (32 + j) = a4 j) 32 0 (a13, a14) (by omega) (fun j hj => absurd hj (by omega))
    (fun n s h => pk_le 32 32 (fun _ => tw_f88 m hm (fun b13 b14 b15 q p p2 => H b13 b14 b15 (fun j hj => (q j hj).trans (h j (by omega) hj)) p p2)) (fun z => absurd z (by omega)))
    (fun n i s hi h hw => by
      have e32 : 32 + nI i = nI (32 + i) := nI_add 32 i
      have i64 : vp_in (32 + nI i) 64 := pk_in (32 + i) 64 (by omega) e32
      have ec : (32 + nI i).toNatClampNeg = 32 + i := by rw [e32]; exact nI_clamp (by omega)
      refine pk_le 32 i (fun z => absurd z (by omega)) (fun _ => pk_le m i (fun z => ?_) (fun z => ?_))
      · refine br_t rfl ⟨i64, nm_e (br_t rfl ⟨i64, nm_e (nm_r (nI_1 i) (hw (_, _) (fun j h1 h2 => ?_)))⟩)⟩
        show upd s.1 (32 + nI i).toNatClampNeg 0 (32 + j) = a4 j
        rw [ec, pk_un (by omega)]
        exact h j (by omega) h2
      · have e1 : a11 (nI i).toNatClampNeg = nI i := by rw [nI_clamp (by omega)]; exact ha i z
        have i24 : vp_in (a11 (nI i).toNatClampNeg) 24 := pk_in i 24 (by omega) e1
        refine br_f (by decide) ⟨pk_in i 32 (by omega), i24, i64, nm_e (br_f (by decide) ⟨pk_in i 32 (by omega), i24, i64, nm_e (nm_r (nI_1 i) (hw (_, _) (fun j h1 h2 => ?_)))⟩)⟩
        show upd s.1 (32 + nI i).toNatClampNeg (a4 (a11 (nI i).toNatClampNeg).toNatClampNeg) (32 + j) = a4 j
        rw [ec, e1, nI_clamp (by omega)]
        by_cases e : j = i
        · rw [e]; exact pk_us
        · rw [pk_un (by omega)]
          exact h j (by omega) h2)
theorem tw_c31 (m : Nat) (hm : m ≤ 24) (H : ∀ b16 : Nat → Int32, (∀ j, j < m → b16 j = 0) → post ((nI m), l, rs, rm, a1, a2, a3, a4, a5, a6, a7, a8, a9, a10, a11, a12, a13, a14, a15, b16, a17, a18, a19, a20, a21, a22, a23, a24, a25)) : ∃ n, wX_clearNear_31 post (nI m) l rs rm n 0 a1 a2 a3 a4 a5 a6 a7 a8 a9 a10 a11 a12 a13 a14 a15 a16 a17 a18 a19 a20 a21 a22 a23 a24 a25 :=
  pk_loop (fun n i s => wX_clearNear_31 post (nI m) l rs rm n (nI i) a1 a2 a3 a4 a5 a6 a7 a8 a9 a10 a11 a12 a13 a14 a15 s a17 a18 a19 a20 a21 a22 a23 a24 a25) (fun i s => ∀ j, j < i → s j = 0) m 0 a16 (by omega) (fun j hj => absurd hj (by omega))
    (fun n s h => pk_le m m (fun _ => H s h) (fun z => absurd z (by omega)))
    (fun n i s hi h hw => pk_le m i (fun z => absurd z (by omega)) (fun _ => ⟨pk_in i 24 (by omega), nm_e (nm_r (nI_1 i) (hw _ (fun j hj => by
      rw [nI_clamp (by omega)]
      by_cases e : j = i
      · rw [e]; exact pk_us
      · rw [pk_un e]; exact h j (by omega))))⟩))
theorem tw_clear (m : Nat) (hm : m ≤ 24) (H : ∀ b16 b18 b19 : Nat → Int32, (∀ j, j < m → b16 j = 0) → post ((nI m), l, rs, rm, a1, a2, a3, a4, a5, a6, a7, a8, a9, a10, a11, a12, a13, a14, a15, b16, a17, b18, b19, a20, a21, a22, a23, a24, a25)) : wpX_clearNear post ((nI m), l, rs, rm, a1, a2, a3, a4, a5, a6, a7, a8, a9, a10, a11, a12, a13, a14, a15, a16, a17, a18, a19, a20, a21, a22, a23, a24, a25) :=
  pk_loop (fun n i (s : (Nat → Int32) × (Nat → Int32)) => wX_clearNear_2 post (nI m) l rs rm n (nI i) a1 a2 a3 a4 a5 a6 a7 a8 a9 a10 a11 a12 a13 a14 a15 a16 a17 s.1 s.2 a20 a21 a22 a23 a24 a25) (fun _ _ => True) 600 0 (a18, a19) (by omega) trivial
    (fun n s h => pk_le 600 600 (fun _ => tw_c31 m hm (fun b16 q => H b16 _ _ q)) (fun z => absurd z (by omega)))
    (fun n i s hi h hw => pk_le 600 i (fun z => absurd z (by omega)) (fun _ => ⟨pk_in i 600 (by omega), nm_e ⟨pk_in i 600 (by omega), nm_e (nm_r (nI_1 i) (hw (_, _) trivial))⟩⟩))
end
end
section
section
variable {c l rs rm : Int32} {a1 a2 a3 a4 a5 a6 a7 a8 a9 a10 a11 a12 a13 a14 a15 a16 a17 a18 a19 a20 a21 a22 a23 a24 a25 : Nat → Int32}
variable {post : Int32 → St2 → Prop}
theorem tw_lpA {q : Int32} (hq : q = 0) (h2 : a2 0 = -1) (H : ∀ b20 b21 b22 : Nat → Int32, b20 0 = 0 → b21 0 = -1 → b22 0 = 0 → post 1 (c, l, rs, rm, a1, a2, a3, a4, a5, a6, a7, a8, a9, a10, a11, a12, a13, a14, a15, a16, a17, a18, a19, b20, b21, b22, a23, a24, a25)) : wpX_listPiece post (c, l, rs, rm, a1, a2, a3, a4, a5, a6, a7, a8, a9, a10, a11, a12, a13, a14, a15, a16, a17, a18, a19, a20, a21, a22, a23, a24, a25) q := by
  subst hq
  repeat (first
    | (refine tw_in ?_ ?_; (focus (simp [vp_in, tw_u, h2]; done)))
    | refine tw_n2 ?_
    | (refine br_t ?_ ?_; (focus (simp [tw_u, h2]; done)))
    | (refine br_f ?_ ?_; (focus (simp [tw_u, h2]; done)))
    | (intro x_ hx_; (try simp [tw_u, h2] at hx_); subst hx_)
    | refine Exists.intro 9 ?_)
  exact H _ _ _ (by simp [tw_u]) (by simp [tw_u]) (by simp [tw_u])
theorem tw_lpB {q : Int32} (hq : q = 0) (h2 : a2 0 = 1) (h3 : a2 1 = -1) (h4 : a3 1 = -1) (h1 : a1 1 = 0) (h5 : a16 0 = 0) (h6 : a16 1 = 0) (H : ∀ b20 b21 b22 : Nat → Int32, b20 0 = 0 → b20 1 = 1 → b21 0 = -1 → b21 1 = 0 → b22 0 = 0 → b22 1 = 1 → post 2 (c, l, rs, rm, a1, a2, a3, a4, a5, a6, a7, a8, a9, a10, a11, a12, a13, a14, a15, a16, a17, a18, a19, b20, b21, b22, a23, a24, a25)) : wpX_listPiece post (c, l, rs, rm, a1, a2, a3, a4, a5, a6, a7, a8, a9, a10, a11, a12, a13, a14, a15, a16, a17, a18, a19, a20, a21, a22, a23, a24, a25) q := by
  subst hq
  repeat (first
    | (refine tw_in ?_ ?_; (focus (simp [vp_in, tw_u, h1, h2, h3, h4, h5, h6]; done)))
    | refine tw_n2 ?_
    | (refine br_t ?_ ?_; (focus (simp [tw_u, h1, h2, h3, h4, h5, h6]; done)))
    | (refine br_f ?_ ?_; (focus (simp [tw_u, h1, h2, h3, h4, h5, h6]; done)))
    | (intro x_ hx_; (try simp [tw_u, h1, h2, h3, h4, h5, h6] at hx_); subst hx_)
    | refine Exists.intro 9 ?_)
  exact H _ _ _ (by simp [tw_u]) (by simp [tw_u]) (by simp [tw_u]) (by simp [tw_u]) (by simp [tw_u]) (by simp [tw_u])
theorem tw_lpC {q : Int32} (hq : q = 1) (h2 : a2 0 = 1) (h3 : a2 1 = -1) (h4 : a3 1 = -1) (h1 : a1 1 = 0) (h5 : a16 0 = 0) (h6 : a16 1 = 0) (H : ∀ b20 b21 b22 : Nat → Int32, b20 0 = 1 → b20 1 = 0 → b21 0 = -1 → b21 1 = 0 → b22 0 = 0 → b22 1 = 1 → post 2 (c, l, rs, rm, a1, a2, a3, a4, a5, a6, a7, a8, a9, a10, a11, a12, a13, a14, a15, a16, a17, a18, a19, b20, b21, b22, a23, a24, a25)) : wpX_listPiece post (c, l, rs, rm, a1, a2, a3, a4, a5, a6, a7, a8, a9, a10, a11, a12, a13, a14, a15, a16, a17, a18, a19, a20, a21, a22, a23, a24, a25) q := by
  subst hq
  repeat (first
    | (refine tw_in ?_ ?_; (focus (simp [vp_in, tw_u, h1, h2, h3, h4, h5, h6]; done)))
    | refine tw_n2 ?_
    | (refine br_t ?_ ?_; (focus (simp [tw_u, h1, h2, h3, h4, h5, h6]; done)))
    | (refine br_f ?_ ?_; (focus (simp [tw_u, h1, h2, h3, h4, h5, h6]; done)))
    | (intro x_ hx_; (try simp [tw_u, h1, h2, h3, h4, h5, h6] at hx_); subst hx_)
    | refine Exists.intro 9 ?_)
  exact H _ _ _ (by simp [tw_u]) (by simp [tw_u]) (by simp [tw_u]) (by simp [tw_u]) (by simp [tw_u]) (by simp [tw_u])
theorem tw_lpD {q : Int32} (hq : q = 0) (h2 : a2 0 = 1) (h4 : a3 1 = -1) (h6 : a16 1 = 1) (H : ∀ b20 b21 b22 : Nat → Int32, b20 0 = 0 → b21 0 = -1 → b22 0 = 0 → post 1 (c, l, rs, rm, a1, a2, a3, a4, a5, a6, a7, a8, a9, a10, a11, a12, a13, a14, a15, a16, a17, a18, a19, b20, b21, b22, a23, a24, a25)) : wpX_listPiece post (c, l, rs, rm, a1, a2, a3, a4, a5, a6, a7, a8, a9, a10, a11, a12, a13, a14, a15, a16, a17, a18, a19, a20, a21, a22, a23, a24, a25) q := by
  subst hq
  repeat (first
    | (refine tw_in ?_ ?_; (focus (simp [vp_in, tw_u, h2, h4, h6]; done)))
    | refine tw_n2 ?_
    | (refine br_t ?_ ?_; (focus (simp [tw_u, h2, h4, h6]; done)))
    | (refine br_f ?_ ?_; (focus (simp [tw_u, h2, h4, h6]; done)))
    | (intro x_ hx_; (try simp [tw_u, h2, h4, h6] at hx_); subst hx_)
    | refine Exists.intro 9 ?_)
  exact H _ _ _ (by simp [tw_u]) (by simp [tw_u]) (by simp [tw_u])
theorem tw_mid1 {q : Int32} (hq : q = 1) (h2 : a20 0 = 0) (H : ∀ b23 : Nat → Int32, post 0 (c, l, rs, rm, a1, a2, a3, a4, a5, a6, a7, a8, a9, a10, a11, a12, a13, a14, a15, a16, a17, a18, a19, a20, a21, a22, b23, a24, a25)) : wpX_middleOf post (c, l, rs, rm, a1, a2, a3, a4, a5, a6, a7, a8, a9, a10, a11, a12, a13, a14, a15, a16, a17, a18, a19, a20, a21, a22, a23, a24, a25) q := by
  subst hq
  repeat (first
    | (refine tw_in ?_ ?_; (focus (simp [vp_in, tw_u, h2]; done)))
    | refine tw_n2 ?_
    | (refine br_t ?_ ?_; (focus (simp [tw_u, h2]; done)))
    | (refine br_f ?_ ?_; (focus (simp [tw_u, h2]; done)))
    | (intro x_ hx_; (try simp [tw_u, h2] at hx_); subst hx_)
    | refine Exists.intro 9 ?_)
  exact tw_pe (post := post) (r' := 0) h2 (H _)
theorem tw_mid2 {q : Int32} (hq : q = 2) (h2 : a20 1 = 1) (h3 : a21 1 = 0) (H : ∀ b23 : Nat → Int32, post 1 (c, l, rs, rm, a1, a2, a3, a4, a5, a6, a7, a8, a9, a10, a11, a12, a13, a14, a15, a16, a17, a18, a19, a20, a21, a22, b23, a24, a25)) : wpX_middleOf post (c, l, rs, rm, a1, a2, a3, a4, a5, a6, a7, a8, a9, a10, a11, a12, a13, a14, a15, a16, a17, a18, a19, a20, a21, a22, a23, a24, a25) q := by
  subst hq
  repeat (first
    | (refine tw_in ?_ ?_; (focus (simp [vp_in, tw_u, h2, h3]; done)))
    | refine tw_n2 ?_
    | (refine br_t ?_ ?_; (focus (simp [tw_u, h2, h3]; done)))
    | (refine br_f ?_ ?_; (focus (simp [tw_u, h2, h3]; done)))
    | (intro x_ hx_; (try simp [tw_u, h2, h3] at hx_); subst hx_)
    | refine Exists.intro 9 ?_)
  exact tw_pe (post := post) (r' := 1) h2 (H _)
end
end
section
section
variable {c l rs rm : Int32} {a1 a2 a3 a4 a5 a6 a7 a8 a9 a10 a11 a12 a13 a14 a15 a16 a17 a18 a19 a20 a21 a22 a23 a24 a25 : Nat → Int32}
variable {post : St2 → Prop}
theorem tw_pp1 (h2 : a2 0 = -1) (H : ∀ b16 b17 b18 b19 b20 b21 b22 b23 b24 b25 : Nat → Int32, post (1, l, rs, rm, a1, a2, a3, a4, a5, a6, a7, a8, a9, a10, a11, a12, a13, a14, a15, b16, b17, b18, b19, b20, b21, b22, b23, b24, b25)) : wpX_partPieces post (1, l, rs, rm, a1, a2, a3, a4, a5, a6, a7, a8, a9, a10, a11, a12, a13, a14, a15, a16, a17, a18, a19, a20, a21, a22, a23, a24, a25) := by
  unfold wpX_partPieces
  refine tw_clear 1 (by omega) (fun b16 b18 b19 hb => ?_)
  repeat (first
    | (refine tw_in ?_ ?_; (focus (simp [vp_in, tw_u, *]; done)))
    | (refine br_t ?_ ?_; (focus (simp [tw_u, *]; done)))
    | (refine br_f ?_ ?_; (focus (simp [tw_u, *]; done)))
    | (refine tw_lpA ?_ ?_ (fun b20 b21 b22 g1 g2 g3 => ?_); (iterate 2 (focus (simp [tw_u, *]; done))))
    | (refine tw_mid1 ?_ ?_ (fun b23 => ?_); (iterate 2 (focus (simp [tw_u, *]; done))))
    | (intro x_ hx_; (try simp [tw_u, *] at hx_); subst hx_)
    | refine Exists.intro 9 ?_)
  exact H _ _ _ _ _ _ _ _ _ _
theorem tw_pp2 (h1 : a1 1 = 0) (h2 : a2 0 = 1) (h3 : a2 1 = -1) (h4 : a3 1 = -1) (H : ∀ b16 b17 b18 b19 b20 b21 b22 b23 b24 b25 : Nat → Int32, post (2, l, rs, rm, a1, a2, a3, a4, a5, a6, a7, a8, a9, a10, a11, a12, a13, a14, a15, b16, b17, b18, b19, b20, b21, b22, b23, b24, b25)) : wpX_partPieces post (2, l, rs, rm, a1, a2, a3, a4, a5, a6, a7, a8, a9, a10, a11, a12, a13, a14, a15, a16, a17, a18, a19, a20, a21, a22, a23, a24, a25) := by
  unfold wpX_partPieces
  refine tw_clear 2 (by omega) (fun b16 b18 b19 hb => ?_)
  have hb0 : b16 0 = 0 := hb 0 (by omega)
  have hb1 : b16 1 = 0 := hb 1 (by omega)
  clear hb
  repeat (first
    | (refine tw_in ?_ ?_; (focus (simp [vp_in, tw_u, *]; done)))
    | (refine br_t ?_ ?_; (focus (simp [tw_u, *]; done)))
    | (refine br_f ?_ ?_; (focus (simp [tw_u, *]; done)))
    | (refine tw_lpB ?_ ?_ ?_ ?_ ?_ ?_ ?_ (fun b20 b21 b22 g1 g2 g3 g4 g5 g6 => ?_); (iterate 7 (focus (simp [tw_u, *]; done))))
    | (refine tw_lpC ?_ ?_ ?_ ?_ ?_ ?_ ?_ (fun b20 b21 b22 g1 g2 g3 g4 g5 g6 => ?_); (iterate 7 (focus (simp [tw_u, *]; done))))
    | (refine tw_lpD ?_ ?_ ?_ ?_ (fun b20 b21 b22 g1 g2 g3 => ?_); (iterate 4 (focus (simp [tw_u, *]; done))))
    | (refine tw_mid1 ?_ ?_ (fun b23 => ?_); (iterate 2 (focus (simp [tw_u, *]; done))))
    | (refine tw_mid2 ?_ ?_ ?_ (fun b23 => ?_); (iterate 3 (focus (simp [tw_u, *]; done))))
    | (intro x_ hx_; (try simp [tw_u, *] at hx_); subst hx_)
    | refine Exists.intro 9 ?_)
  exact H _ _ _ _ _ _ _ _ _ _
end
end
section
section
variable {c l rs rm : Int32} {a1 a2 a3 a4 a5 a6 a7 a8 a9 a10 a11 a12 a13 a14 a15 a16 a17 a18 a19 a20 a21 a22 a23 a24 a25 : Nat → Int32}
variable {post : St2 → Prop}
/-- the pictures: one node, its value w; two nodes, their values; U: to be laid out of 'saved'; L: laid -/
def tw_U1 (w : Int32) (u : St2) : Prop := match u with
  | (c, l, rs, rm, a1, a2, a3, a4, a5, a6, a7, a8, a9, a10, a11, a12, a13, a14, a15, a16, a17, a18, a19, a20, a21, a22, a23, a24, a25) => c = 1 ∧ l = 0 ∧ a4 0 = w
def tw_L1 (w : Int32) (u : St2) : Prop := match u with
  | (c, l, rs, rm, a1, a2, a3, a4, a5, a6, a7, a8, a9, a10, a11, a12, a13, a14, a15, a16, a17, a18, a19, a20, a21, a22, a23, a24, a25) => c = 1 ∧ l = 1 ∧ a6 0 = 1 ∧ a7 0 = 0 ∧ a9 0 = 0 ∧ a10 0 = 0 ∧ tw_pd a15 ∧ a13 32 + a15 16 = w
def tw_U2 (w0 w1 : Int32) (u : St2) : Prop := match u with
  | (c, l, rs, rm, a1, a2, a3, a4, a5, a6, a7, a8, a9, a10, a11, a12, a13, a14, a15, a16, a17, a18, a19, a20, a21, a22, a23, a24, a25) => c = 2 ∧ l = 0 ∧ a1 1 = 0 ∧ a4 0 = w0 ∧ a4 1 = w1
def tw_L2 (w0 w1 : Int32) (u : St2) : Prop := match u with
  | (c, l, rs, rm, a1, a2, a3, a4, a5, a6, a7, a8, a9, a10, a11, a12, a13, a14, a15, a16, a17, a18, a19, a20, a21, a22, a23, a24, a25) => c = 2 ∧ l = 1 ∧ a1 1 = 0 ∧ a6 0 = 2 ∧ a6 1 = 1 ∧ a7 0 = 0 ∧ a7 1 = 1 ∧ a9 0 = 0 ∧ a9 1 = 0 ∧ a10 0 = 0 ∧ a10 1 = 1 ∧ tw_pd a15 ∧ a13 32 + a15 16 = w0 ∧ a13 33 + a15 16 = w1
def tw_S1 (w : Int32) (u : St2) : Prop := tw_U1 w u ∨ tw_L1 w u
def tw_S2 (w0 w1 : Int32) (u : St2) : Prop := tw_U2 w0 w1 u ∨ tw_L2 w0 w1 u
theorem tw_lay1 {w : Int32} {u : St2} (h : tw_S1 w u) (H : ∀ u, tw_L1 w u → post u) : wpX_lay post u := by
  obtain ⟨c, l, rs, rm, a1, a2, a3, a4, a5, a6, a7, a8, a9, a10, a11, a12, a13, a14, a15, a16, a17, a18, a19, a20, a21, a22, a23, a24, a25⟩ := u
  rcases h with h | h
  · obtain ⟨rfl, rfl, hw⟩ := h
    unfold wpX_lay
    refine br_t rfl ?_
    refine tw_link1 (fun b2 q2 => ?_)
    refine tw_meas1 q2 (fun b5 b6 b7 b8 q6 q7 q8 => ?_)
    refine tw_row1 q2 q8 (fun b9 b10 b11 b12 q9 q10 q11 => ?_)
    refine tw_fill 1 (by omega) (fun j hj => by rw [show j = 0 by omega]; exact q11) (fun b13 b14 b15 q13 q15 q16 => ?_)
    refine tw_pp1 q2 (fun b16 b17 b18 b19 b20 b21 b22 b23 b24 b25 => ?_)
    refine H _ ⟨rfl, rfl, q6, q7, q9, q10, q15, ?_⟩
    rw [q16, show b13 32 = a4 0 from q13 0 (by omega), hw]
    exact Int32.add_zero w
  · have h' := h
    obtain ⟨rfl, rfl, _⟩ := h
    unfold wpX_lay
    exact br_f (by decide) (H _ h')
theorem tw_lay2 {w0 w1 : Int32} {u : St2} (h : tw_S2 w0 w1 u) (H : ∀ u, tw_L2 w0 w1 u → post u) : wpX_lay post u := by
  obtain ⟨c, l, rs, rm, a1, a2, a3, a4, a5, a6, a7, a8, a9, a10, a11, a12, a13, a14, a15, a16, a17, a18, a19, a20, a21, a22, a23, a24, a25⟩ := u
  rcases h with h | h
  · obtain ⟨rfl, rfl, h1, hw0, hw1⟩ := h
    unfold wpX_lay
    refine br_t rfl ?_
    refine tw_link2 h1 (fun b2 b3 q2 q2' q3 => ?_)
    refine tw_meas2 h1 q2 q2' q3 (fun b5 b6 b7 b8 q6 q6' q7 q7' q8 q8' => ?_)
    refine tw_row2 q2 q2' q3 q8 q8' (fun b9 b10 b11 b12 q9 q9' q10 q10' q11 q11' => ?_)
    refine tw_fill 2 (by omega) (fun j hj => by
      by_cases e : j = 0
      · rw [e]; exact q11
      · rw [show j = 1 by omega]; exact q11') (fun b13 b14 b15 q13 q15 q16 => ?_)
    refine tw_pp2 h1 q2 q2' q3 (fun b16 b17 b18 b19 b20 b21 b22 b23 b24 b25 => ?_)
    refine H _ ⟨rfl, rfl, h1, q6, q6', q7, q7', q9, q9', q10, q10', q15, ?_, ?_⟩
    · rw [q16, show b13 32 = a4 0 from q13 0 (by omega), hw0]
      exact Int32.add_zero w0
    · rw [q16, show b13 33 = a4 1 from q13 1 (by omega), hw1]
      exact Int32.add_zero w1
  · have h' := h
    obtain ⟨rfl, rfl, _⟩ := h
    unfold wpX_lay
    exact br_f (by decide) (H _ h')
end
end
section
section
variable {c l rs rm : Int32} {a1 a2 a3 a4 a5 a6 a7 a8 a9 a10 a11 a12 a13 a14 a15 a16 a17 a18 a19 a20 a21 a22 a23 a24 a25 : Nat → Int32}
variable {post : St2 → Prop}
theorem tw_pass {q : Int32} (hq : q = 0 ∨ q = 1) (p : tw_pd a15) (H : ∀ b13 b14 b15 : Nat → Int32, tw_pd b15 → b15 16 = 0 → b13 32 = a13 32 + a15 16 → b13 33 = a13 33 + a15 16 → post (c, l, rs, rm, a1, a2, a3, a4, a5, a6, a7, a8, a9, a10, a11, a12, b13, b14, b15, a16, a17, a18, a19, a20, a21, a22, a23, a24, a25)) : wpX_passDown post (c, l, rs, rm, a1, a2, a3, a4, a5, a6, a7, a8, a9, a10, a11, a12, a13, a14, a15, a16, a17, a18, a19, a20, a21, a22, a23, a24, a25) q := by
  obtain ⟨p1, p2, p4, p8⟩ := p
  rcases hq with rfl | rfl
  · by_cases h16 : a15 16 = 0
    · repeat (first
        | (refine tw_in ?_ ?_; (focus (simp [vp_in, tw_u, p1, p2, p4, p8, h16, tw_s32_5, tw_s32_4, tw_s32_3, tw_s32_2, tw_s32_1, tw_s33_5, tw_s33_4, tw_s33_3, tw_s33_2, tw_s33_1, tw_s32_0, tw_s34_1, tw_s17_1, tw_s16_1, tw_s8_1, tw_s4_1, tw_s2_1, tw_s1_1, tw_m32, tw_m33, tw_m34, tw_m16, tw_m17]; done)))
        | refine tw_n2 ?_
        | (refine br_t ?_ ?_; (focus (simp [tw_u, p1, p2, p4, p8, h16, tw_s32_5, tw_s32_4, tw_s32_3, tw_s32_2, tw_s32_1, tw_s33_5, tw_s33_4, tw_s33_3, tw_s33_2, tw_s33_1, tw_s32_0, tw_s34_1, tw_s17_1, tw_s16_1, tw_s8_1, tw_s4_1, tw_s2_1, tw_s1_1, tw_m32, tw_m33, tw_m34, tw_m16, tw_m17]; done)))
        | (refine br_f ?_ ?_; (focus (simp [tw_u, p1, p2, p4, p8, h16, tw_s32_5, tw_s32_4, tw_s32_3, tw_s32_2, tw_s32_1, tw_s33_5, tw_s33_4, tw_s33_3, tw_s33_2, tw_s33_1, tw_s32_0, tw_s34_1, tw_s17_1, tw_s16_1, tw_s8_1, tw_s4_1, tw_s2_1, tw_s1_1, tw_m32, tw_m33, tw_m34, tw_m16, tw_m17]; done)))
        | (intro x_ hx_; (try simp [tw_u, p1, p2, p4, p8, h16, tw_s32_5, tw_s32_4, tw_s32_3, tw_s32_2, tw_s32_1, tw_s33_5, tw_s33_4, tw_s33_3, tw_s33_2, tw_s33_1, tw_s32_0, tw_s34_1, tw_s17_1, tw_s16_1, tw_s8_1, tw_s4_1, tw_s2_1, tw_s1_1, tw_m32, tw_m33, tw_m34, tw_m16, tw_m17] at hx_); subst hx_)
        | refine Exists.intro 9 ?_)
      exact H _ _ _ ⟨p1, p2, p4, p8⟩ h16 (by simp [h16]) (by simp [h16])
    · repeat (first
        | (refine tw_in ?_ ?_; (focus (simp [vp_in, tw_u, p1, p2, p4, p8, h16, tw_s32_5, tw_s32_4, tw_s32_3, tw_s32_2, tw_s32_1, tw_s33_5, tw_s33_4, tw_s33_3, tw_s33_2, tw_s33_1, tw_s32_0, tw_s34_1, tw_s17_1, tw_s16_1, tw_s8_1, tw_s4_1, tw_s2_1, tw_s1_1, tw_m32, tw_m33, tw_m34, tw_m16, tw_m17]; done)))
        | refine tw_n2 ?_
        | (refine br_t ?_ ?_; (focus (simp [tw_u, p1, p2, p4, p8, h16, tw_s32_5, tw_s32_4, tw_s32_3, tw_s32_2, tw_s32_1, tw_s33_5, tw_s33_4, tw_s33_3, tw_s33_2, tw_s33_1, tw_s32_0, tw_s34_1, tw_s17_1, tw_s16_1, tw_s8_1, tw_s4_1, tw_s2_1, tw_s1_1, tw_m32, tw_m33, tw_m34, tw_m16, tw_m17]; done)))
        | (refine br_f ?_ ?_; (focus (simp [tw_u, p1, p2, p4, p8, h16, tw_s32_5, tw_s32_4, tw_s32_3, tw_s32_2, tw_s32_1, tw_s33_5, tw_s33_4, tw_s33_3, tw_s33_2, tw_s33_1, tw_s32_0, tw_s34_1, tw_s17_1, tw_s16_1, tw_s8_1, tw_s4_1, tw_s2_1, tw_s1_1, tw_m32, tw_m33, tw_m34, tw_m16, tw_m17]; done)))
        | (intro x_ hx_; (try simp [tw_u, p1, p2, p4, p8, h16, tw_s32_5, tw_s32_4, tw_s32_3, tw_s32_2, tw_s32_1, tw_s33_5, tw_s33_4, tw_s33_3, tw_s33_2, tw_s33_1, tw_s32_0, tw_s34_1, tw_s17_1, tw_s16_1, tw_s8_1, tw_s4_1, tw_s2_1, tw_s1_1, tw_m32, tw_m33, tw_m34, tw_m16, tw_m17] at hx_); subst hx_)
        | refine Exists.intro 9 ?_)
      exact H _ _ _ ⟨by simp [tw_u, p1, p2, p4, p8], by simp [tw_u, p1, p2, p4, p8], by simp [tw_u, p1, p2, p4, p8], by simp [tw_u, p1, p2, p4, p8]⟩ (by simp [tw_u]) (by simp [tw_u]) (by simp [tw_u])
  · by_cases h16 : a15 16 = 0
    · repeat (first
        | (refine tw_in ?_ ?_; (focus (simp [vp_in, tw_u, p1, p2, p4, p8, h16, tw_s32_5, tw_s32_4, tw_s32_3, tw_s32_2, tw_s32_1, tw_s33_5, tw_s33_4, tw_s33_3, tw_s33_2, tw_s33_1, tw_s32_0, tw_s34_1, tw_s17_1, tw_s16_1, tw_s8_1, tw_s4_1, tw_s2_1, tw_s1_1, tw_m32, tw_m33, tw_m34, tw_m16, tw_m17]; done)))
        | refine tw_n2 ?_
        | (refine br_t ?_ ?_; (focus (simp [tw_u, p1, p2, p4, p8, h16, tw_s32_5, tw_s32_4, tw_s32_3, tw_s32_2, tw_s32_1, tw_s33_5, tw_s33_4, tw_s33_3, tw_s33_2, tw_s33_1, tw_s32_0, tw_s34_1, tw_s17_1, tw_s16_1, tw_s8_1, tw_s4_1, tw_s2_1, tw_s1_1, tw_m32, tw_m33, tw_m34, tw_m16, tw_m17]; done)))
        | (refine br_f ?_ ?_; (focus (simp [tw_u, p1, p2, p4, p8, h16, tw_s32_5, tw_s32_4, tw_s32_3, tw_s32_2, tw_s32_1, tw_s33_5, tw_s33_4, tw_s33_3, tw_s33_2, tw_s33_1, tw_s32_0, tw_s34_1, tw_s17_1, tw_s16_1, tw_s8_1, tw_s4_1, tw_s2_1, tw_s1_1, tw_m32, tw_m33, tw_m34, tw_m16, tw_m17]; done)))
        | (intro x_ hx_; (try simp [tw_u, p1, p2, p4, p8, h16, tw_s32_5, tw_s32_4, tw_s32_3, tw_s32_2, tw_s32_1, tw_s33_5, tw_s33_4, tw_s33_3, tw_s33_2, tw_s33_1, tw_s32_0, tw_s34_1, tw_s17_1, tw_s16_1, tw_s8_1, tw_s4_1, tw_s2_1, tw_s1_1, tw_m32, tw_m33, tw_m34, tw_m16, tw_m17] at hx_); subst hx_)
        | refine Exists.intro 9 ?_)
      exact H _ _ _ ⟨p1, p2, p4, p8⟩ h16 (by simp [h16]) (by simp [h16])
    · repeat (first
        | (refine tw_in ?_ ?_; (focus (simp [vp_in, tw_u, p1, p2, p4, p8, h16, tw_s32_5, tw_s32_4, tw_s32_3, tw_s32_2, tw_s32_1, tw_s33_5, tw_s33_4, tw_s33_3, tw_s33_2, tw_s33_1, tw_s32_0, tw_s34_1, tw_s17_1, tw_s16_1, tw_s8_1, tw_s4_1, tw_s2_1, tw_s1_1, tw_m32, tw_m33, tw_m34, tw_m16, tw_m17]; done)))
        | refine tw_n2 ?_
        | (refine br_t ?_ ?_; (focus (simp [tw_u, p1, p2, p4, p8, h16, tw_s32_5, tw_s32_4, tw_s32_3, tw_s32_2, tw_s32_1, tw_s33_5, tw_s33_4, tw_s33_3, tw_s33_2, tw_s33_1, tw_s32_0, tw_s34_1, tw_s17_1, tw_s16_1, tw_s8_1, tw_s4_1, tw_s2_1, tw_s1_1, tw_m32, tw_m33, tw_m34, tw_m16, tw_m17]; done)))
        | (refine br_f ?_ ?_; (focus (simp [tw_u, p1, p2, p4, p8, h16, tw_s32_5, tw_s32_4, tw_s32_3, tw_s32_2, tw_s32_1, tw_s33_5, tw_s33_4, tw_s33_3, tw_s33_2, tw_s33_1, tw_s32_0, tw_s34_1, tw_s17_1, tw_s16_1, tw_s8_1, tw_s4_1, tw_s2_1, tw_s1_1, tw_m32, tw_m33, tw_m34, tw_m16, tw_m17]; done)))
        | (intro x_ hx_; (try simp [tw_u, p1, p2, p4, p8, h16, tw_s32_5, tw_s32_4, tw_s32_3, tw_s32_2, tw_s32_1, tw_s33_5, tw_s33_4, tw_s33_3, tw_s33_2, tw_s33_1, tw_s32_0, tw_s34_1, tw_s17_1, tw_s16_1, tw_s8_1, tw_s4_1, tw_s2_1, tw_s1_1, tw_m32, tw_m33, tw_m34, tw_m16, tw_m17] at hx_); subst hx_)
        | refine Exists.intro 9 ?_)
      exact H _ _ _ ⟨by simp [tw_u, p1, p2, p4, p8], by simp [tw_u, p1, p2, p4, p8], by simp [tw_u, p1, p2, p4, p8], by simp [tw_u, p1, p2, p4, p8]⟩ (by simp [tw_u]) (by simp [tw_u]) (by simp [tw_u])
theorem tw_up {q : Int32} (hq : q = 0 ∨ q = 1) (H : ∀ b13 b14 : Nat → Int32, b13 32 = a13 32 → b13 33 = a13 33 → post (c, l, rs, rm, a1, a2, a3, a4, a5, a6, a7, a8, a9, a10, a11, a12, b13, b14, a15, a16, a17, a18, a19, a20, a21, a22, a23, a24, a25)) : wpX_joinUp post (c, l, rs, rm, a1, a2, a3, a4, a5, a6, a7, a8, a9, a10, a11, a12, a13, a14, a15, a16, a17, a18, a19, a20, a21, a22, a23, a24, a25) q := by
  have hq' : (32 + q) >>> ((1 : Int32) &&& 31) = 16 := by rcases hq with rfl | rfl <;> decide
  have key : ∃ fu, wX_joinUp_9 post fu 16 0 c l rs rm a1 a2 a3 a4 a5 a6 a7 a8 a9 a10 a11 a12 a13 a14 a15 a16 a17 a18 a19 a20 a21 a22 a23 a24 a25 := by
    refine ⟨6, ?_⟩
    refine br_f (by decide) (tw_in (pk_in 16 64 (by omega)) (nm_e (nm_e ?_)))
    refine tw_join 16 (by omega) (fun b13_16 b14_16 g_16 => ?_)
    refine tw_in (pk_in 16 64 (by omega)) (tw_in (pk_in 16 64 (by omega)) (nm_e (tw_in (pk_in 16 64 (by omega)) (tw_in (pk_in 16 64 (by omega)) (nm_e (nm_r tw_s16_1 (nm_r (show (0 : Int32) + 1 = 1 by decide) ?_)))))))
    refine br_f (by decide) (tw_in (pk_in 8 64 (by omega)) (nm_e (nm_e ?_)))
    refine tw_join 8 (by omega) (fun b13_8 b14_8 g_8 => ?_)
    refine tw_in (pk_in 8 64 (by omega)) (tw_in (pk_in 8 64 (by omega)) (nm_e (tw_in (pk_in 8 64 (by omega)) (tw_in (pk_in 8 64 (by omega)) (nm_e (nm_r tw_s8_1 (nm_r (show (1 : Int32) + 1 = 2 by decide) ?_)))))))
    refine br_f (by decide) (tw_in (pk_in 4 64 (by omega)) (nm_e (nm_e ?_)))
    refine tw_join 4 (by omega) (fun b13_4 b14_4 g_4 => ?_)
    refine tw_in (pk_in 4 64 (by omega)) (tw_in (pk_in 4 64 (by omega)) (nm_e (tw_in (pk_in 4 64 (by omega)) (tw_in (pk_in 4 64 (by omega)) (nm_e (nm_r tw_s4_1 (nm_r (show (2 : Int32) + 1 = 3 by decide) ?_)))))))
    refine br_f (by decide) (tw_in (pk_in 2 64 (by omega)) (nm_e (nm_e ?_)))
    refine tw_join 2 (by omega) (fun b13_2 b14_2 g_2 => ?_)
    refine tw_in (pk_in 2 64 (by omega)) (tw_in (pk_in 2 64 (by omega)) (nm_e (tw_in (pk_in 2 64 (by omega)) (tw_in (pk_in 2 64 (by omega)) (nm_e (nm_r tw_s2_1 (nm_r (show (3 : Int32) + 1 = 4 by decide) ?_)))))))
    refine br_f (by decide) (tw_in (pk_in 1 64 (by omega)) (nm_e (nm_e ?_)))
    refine tw_join 1 (by omega) (fun b13_1 b14_1 g_1 => ?_)
    refine tw_in (pk_in 1 64 (by omega)) (tw_in (pk_in 1 64 (by omega)) (nm_e (tw_in (pk_in 1 64 (by omega)) (tw_in (pk_in 1 64 (by omega)) (nm_e (nm_r tw_s1_1 (nm_r (show (4 : Int32) + 1 = 5 by decide) ?_)))))))
    refine br_t (by decide) (H _ _ ?_ ?_)
    · simp [tw_u, g_16, g_8, g_4, g_2, g_1]
    · simp [tw_u, g_16, g_8, g_4, g_2, g_1]
  unfold wpX_joinUp
  exact nm_r hq' key
theorem tw_add00 {p0 p1 x : Int32} (h0 : p0 = 0) (h1 : p1 = 0) (p : tw_pd a15) (H : ∀ b13 b14 b15 : Nat → Int32, tw_pd b15 → b13 32 + b15 16 = a13 32 + a15 16 + x → b13 33 + b15 16 = a13 33 + a15 16 → post (c, l, rs, rm, a1, a2, a3, a4, a5, a6, a7, a8, a9, a10, a11, a12, b13, b14, b15, a16, a17, a18, a19, a20, a21, a22, a23, a24, a25)) : wpX_addRow post (c, l, rs, rm, a1, a2, a3, a4, a5, a6, a7, a8, a9, a10, a11, a12, a13, a14, a15, a16, a17, a18, a19, a20, a21, a22, a23, a24, a25) p0 p1 x := by
  subst h0 h1
  unfold wpX_addRow
  refine tw_pass (Or.inl rfl) p (fun b13 b14 b15 p z e0 e1 => ?_)
  refine tw_pass (Or.inl rfl) p (fun d13 d14 d15 p2 z2 f0 f1 => ?_)
  rw [z] at f0 f1
  obtain ⟨r1, r2, r4, r8⟩ := p2
  repeat (first
    | (refine tw_in ?_ ?_; (focus (simp [vp_in]; done)))
    | (refine br_t ?_ ?_; (focus (simp [tw_s32_5, tw_s32_4, tw_s32_3, tw_s32_2, tw_s32_1, tw_s33_5, tw_s33_4, tw_s33_3, tw_s33_2, tw_s33_1, tw_s32_0, tw_s34_1, tw_s17_1, tw_s16_1, tw_s8_1, tw_s4_1, tw_s2_1, tw_s1_1, tw_m32, tw_m33, tw_m34, tw_m16, tw_m17]; done)))
    | (refine br_f ?_ ?_; (focus (simp [tw_s32_5, tw_s32_4, tw_s32_3, tw_s32_2, tw_s32_1, tw_s33_5, tw_s33_4, tw_s33_3, tw_s33_2, tw_s33_1, tw_s32_0, tw_s34_1, tw_s17_1, tw_s16_1, tw_s8_1, tw_s4_1, tw_s2_1, tw_s1_1, tw_m32, tw_m33, tw_m34, tw_m16, tw_m17]; done)))
    | refine tw_up (Or.inl rfl) (fun b13 b14 s0 s1 => ?_)
    | refine tw_up (Or.inl rfl) (fun b13 b14 s0 s1 => ?_)
    | (intro x_ hx_; (try simp [tw_s32_5, tw_s32_4, tw_s32_3, tw_s32_2, tw_s32_1, tw_s33_5, tw_s33_4, tw_s33_3, tw_s33_2, tw_s33_1, tw_s32_0, tw_s34_1, tw_s17_1, tw_s16_1, tw_s8_1, tw_s4_1, tw_s2_1, tw_s1_1, tw_m32, tw_m33, tw_m34, tw_m16, tw_m17] at hx_); subst hx_)
    | refine Exists.intro 7 ?_)
  refine H _ _ _ ⟨by simp [tw_u, *], by simp [tw_u, *], by simp [tw_u, *], by simp [tw_u, *]⟩ ?_ ?_
  · simp [tw_u, *]
  · simp [tw_u, *]
theorem tw_add11 {p0 p1 x : Int32} (h0 : p0 = 1) (h1 : p1 = 1) (p : tw_pd a15) (H : ∀ b13 b14 b15 : Nat → Int32, tw_pd b15 → b13 32 + b15 16 = a13 32 + a15 16 → b13 33 + b15 16 = a13 33 + a15 16 + x → post (c, l, rs, rm, a1, a2, a3, a4, a5, a6, a7, a8, a9, a10, a11, a12, b13, b14, b15, a16, a17, a18, a19, a20, a21, a22, a23, a24, a25)) : wpX_addRow post (c, l, rs, rm, a1, a2, a3, a4, a5, a6, a7, a8, a9, a10, a11, a12, a13, a14, a15, a16, a17, a18, a19, a20, a21, a22, a23, a24, a25) p0 p1 x := by
  subst h0 h1
  unfold wpX_addRow
  refine tw_pass (Or.inr rfl) p (fun b13 b14 b15 p z e0 e1 => ?_)
  refine tw_pass (Or.inr rfl) p (fun d13 d14 d15 p2 z2 f0 f1 => ?_)
  rw [z] at f0 f1
  obtain ⟨r1, r2, r4, r8⟩ := p2
  repeat (first
    | (refine tw_in ?_ ?_; (focus (simp [vp_in]; done)))
    | (refine br_t ?_ ?_; (focus (simp [tw_s32_5, tw_s32_4, tw_s32_3, tw_s32_2, tw_s32_1, tw_s33_5, tw_s33_4, tw_s33_3, tw_s33_2, tw_s33_1, tw_s32_0, tw_s34_1, tw_s17_1, tw_s16_1, tw_s8_1, tw_s4_1, tw_s2_1, tw_s1_1, tw_m32, tw_m33, tw_m34, tw_m16, tw_m17]; done)))
    | (refine br_f ?_ ?_; (focus (simp [tw_s32_5, tw_s32_4, tw_s32_3, tw_s32_2, tw_s32_1, tw_s33_5, tw_s33_4, tw_s33_3, tw_s33_2, tw_s33_1, tw_s32_0, tw_s34_1, tw_s17_1, tw_s16_1, tw_s8_1, tw_s4_1, tw_s2_1, tw_s1_1, tw_m32, tw_m33, tw_m34, tw_m16, tw_m17]; done)))
    | refine tw_up (Or.inr rfl) (fun b13 b14 s0 s1 => ?_)
    | refine tw_up (Or.inr rfl) (fun b13 b14 s0 s1 => ?_)
    | (intro x_ hx_; (try simp [tw_s32_5, tw_s32_4, tw_s32_3, tw_s32_2, tw_s32_1, tw_s33_5, tw_s33_4, tw_s33_3, tw_s33_2, tw_s33_1, tw_s32_0, tw_s34_1, tw_s17_1, tw_s16_1, tw_s8_1, tw_s4_1, tw_s2_1, tw_s1_1, tw_m32, tw_m33, tw_m34, tw_m16, tw_m17] at hx_); subst hx_)
    | refine Exists.intro 7 ?_)
  refine H _ _ _ ⟨by simp [tw_u, *], by simp [tw_u, *], by simp [tw_u, *], by simp [tw_u, *]⟩ ?_ ?_
  · simp [tw_u, *]
  · simp [tw_u, *]
theorem tw_add01 {p0 p1 x : Int32} (h0 : p0 = 0) (h1 : p1 = 1) (p : tw_pd a15) (H : ∀ b13 b14 b15 : Nat → Int32, tw_pd b15 → b13 32 + b15 16 = a13 32 + a15 16 + x → b13 33 + b15 16 = a13 33 + a15 16 + x → post (c, l, rs, rm, a1, a2, a3, a4, a5, a6, a7, a8, a9, a10, a11, a12, b13, b14, b15, a16, a17, a18, a19, a20, a21, a22, a23, a24, a25)) : wpX_addRow post (c, l, rs, rm, a1, a2, a3, a4, a5, a6, a7, a8, a9, a10, a11, a12, a13, a14, a15, a16, a17, a18, a19, a20, a21, a22, a23, a24, a25) p0 p1 x := by
  subst h0 h1
  unfold wpX_addRow
  refine tw_pass (Or.inl rfl) p (fun b13 b14 b15 p z e0 e1 => ?_)
  refine tw_pass (Or.inr rfl) p (fun d13 d14 d15 p2 z2 f0 f1 => ?_)
  rw [z] at f0 f1
  obtain ⟨r1, r2, r4, r8⟩ := p2
  repeat (first
    | (refine tw_in ?_ ?_; (focus (simp [vp_in]; done)))
    | (refine br_t ?_ ?_; (focus (simp [tw_s32_5, tw_s32_4, tw_s32_3, tw_s32_2, tw_s32_1, tw_s33_5, tw_s33_4, tw_s33_3, tw_s33_2, tw_s33_1, tw_s32_0, tw_s34_1, tw_s17_1, tw_s16_1, tw_s8_1, tw_s4_1, tw_s2_1, tw_s1_1, tw_m32, tw_m33, tw_m34, tw_m16, tw_m17]; done)))
    | (refine br_f ?_ ?_; (focus (simp [tw_s32_5, tw_s32_4, tw_s32_3, tw_s32_2, tw_s32_1, tw_s33_5, tw_s33_4, tw_s33_3, tw_s33_2, tw_s33_1, tw_s32_0, tw_s34_1, tw_s17_1, tw_s16_1, tw_s8_1, tw_s4_1, tw_s2_1, tw_s1_1, tw_m32, tw_m33, tw_m34, tw_m16, tw_m17]; done)))
    | refine tw_up (Or.inl rfl) (fun b13 b14 s0 s1 => ?_)
    | refine tw_up (Or.inr rfl) (fun b13 b14 s0 s1 => ?_)
    | (intro x_ hx_; (try simp [tw_s32_5, tw_s32_4, tw_s32_3, tw_s32_2, tw_s32_1, tw_s33_5, tw_s33_4, tw_s33_3, tw_s33_2, tw_s33_1, tw_s32_0, tw_s34_1, tw_s17_1, tw_s16_1, tw_s8_1, tw_s4_1, tw_s2_1, tw_s1_1, tw_m32, tw_m33, tw_m34, tw_m16, tw_m17] at hx_); subst hx_)
    | refine Exists.intro 7 ?_)
  refine H _ _ _ ⟨by simp [tw_u, *], by simp [tw_u, *], by simp [tw_u, *], by simp [tw_u, *]⟩ ?_ ?_
  · simp [tw_u, *]
  · simp [tw_u, *]
end
end
section
section
variable {c l rs rm : Int32} {a1 a2 a3 a4 a5 a6 a7 a8 a9 a10 a11 a12 a13 a14 a15 a16 a17 a18 a19 a20 a21 a22 a23 a24 a25 : Nat → Int32}
theorem tw_bad1 {post : Int32 → Prop} {v : Int32} (hg : v = 0 → post 0) (hb : ¬ v = 0 → post 1) : wpX_bad post (1, l, rs, rm, a1, a2, a3, a4, a5, a6, a7, a8, a9, a10, a11, a12, a13, a14, a15, a16, a17, a18, a19, a20, a21, a22, a23, a24, a25) v := by
  unfold wpX_bad
  refine br_c (fun z => hb (fun e => ?_)) (fun z => br_c (fun z2 => hg ?_) (fun z2 => hb (fun e => ?_)))
  · subst e; exact absurd z (by decide)
  · rcases pk_ix v (n := 1) (by omega) with k | k | ⟨j, hj, k⟩
    · exact absurd k z
    · exact absurd z2 (Int32.not_lt.mpr k)
    · rw [k, show j = 0 by omega]; rfl
  · subst e; exact absurd (by decide) z2
theorem tw_bad2 {post : Int32 → Prop} {v : Int32} (hg0 : v = 0 → post 0) (hg1 : v = 1 → post 0) (hb : ¬ v = 0 → ¬ v = 1 → post 1) : wpX_bad post (2, l, rs, rm, a1, a2, a3, a4, a5, a6, a7, a8, a9, a10, a11, a12, a13, a14, a15, a16, a17, a18, a19, a20, a21, a22, a23, a24, a25) v := by
  unfold wpX_bad
  refine br_c (fun z => hb (fun e => ?_) (fun e => ?_)) (fun z => br_c (fun z2 => ?_) (fun z2 => hb (fun e => ?_) (fun e => ?_)))
  · subst e; exact absurd z (by decide)
  · subst e; exact absurd z (by decide)
  · rcases pk_ix v (n := 2) (by omega) with k | k | ⟨j, hj, k⟩
    · exact absurd k z
    · exact absurd z2 (Int32.not_lt.mpr k)
    · by_cases ej : j = 0
      · exact hg0 (by rw [k, ej]; rfl)
      · exact hg1 (by rw [k, show j = 1 by omega]; rfl)
  · subst e; exact absurd (by decide) z2
  · subst e; exact absurd (by decide) z2
theorem tw_c1 {w : Int32} (h : tw_S1 w (c, l, rs, rm, a1, a2, a3, a4, a5, a6, a7, a8, a9, a10, a11, a12, a13, a14, a15, a16, a17, a18, a19, a20, a21, a22, a23, a24, a25)) : c = 1 := by
  rcases h with h | h <;> exact h.1
theorem tw_c2 {w0 w1 : Int32} (h : tw_S2 w0 w1 (c, l, rs, rm, a1, a2, a3, a4, a5, a6, a7, a8, a9, a10, a11, a12, a13, a14, a15, a16, a17, a18, a19, a20, a21, a22, a23, a24, a25)) : c = 2 := by
  rcases h with h | h <;> exact h.1
theorem tw_xw (w x : Int32) : w + (x - w) = x := by grind
end
end
section
section
variable {c l rs rm : Int32} {a1 a2 a3 a4 a5 a6 a7 a8 a9 a10 a11 a12 a13 a14 a15 a16 a17 a18 a19 a20 a21 a22 a23 a24 a25 : Nat → Int32}
variable {post : Int32 → St2 → Prop}
theorem tw_val1 {w v : Int32} {u : St2} (h : tw_S1 w u) (hg : v = 0 → ∀ u', tw_L1 w u' → post w u') (hb : ¬ v = 0 → post (-1000000) u) : wpX_value post u v := by
  obtain ⟨c, l, rs, rm, a1, a2, a3, a4, a5, a6, a7, a8, a9, a10, a11, a12, a13, a14, a15, a16, a17, a18, a19, a20, a21, a22, a23, a24, a25⟩ := u
  have hc := tw_c1 h
  subst hc
  unfold wpX_value
  refine tw_bad1 (fun e => br_t rfl (tw_lay1 h (fun u' h' => ?_))) (fun e => br_f (by decide) (hb e))
  subst e
  obtain ⟨c, l, rs, rm, a1, a2, a3, a4, a5, a6, a7, a8, a9, a10, a11, a12, a13, a14, a15, a16, a17, a18, a19, a20, a21, a22, a23, a24, a25⟩ := u'
  obtain ⟨rfl, rfl, h6, h7, h9, h10, hp, hw⟩ := h'
  refine tw_in (by simp [vp_in]) ?_
  refine tw_pass (Or.inl h10) hp (fun b13 b14 b15 q z e0 e1 => ?_)
  refine tw_in (by simp [vp_in]) (tw_in (by simp [vp_in, h10]) ?_)
  refine tw_pe (post := post) (r' := w) (by simp [h10, e0, hw]) ?_
  exact hg rfl _ ⟨rfl, rfl, h6, h7, h9, h10, q, by rw [z, e0, hw]; exact Int32.add_zero w⟩
theorem tw_val2 {w0 w1 v : Int32} {u : St2} (h : tw_S2 w0 w1 u) (hg0 : v = 0 → ∀ u', tw_L2 w0 w1 u' → post w0 u') (hg1 : v = 1 → ∀ u', tw_L2 w0 w1 u' → post w1 u') (hb : ¬ v = 0 → ¬ v = 1 → post (-1000000) u) : wpX_value post u v := by
  obtain ⟨c, l, rs, rm, a1, a2, a3, a4, a5, a6, a7, a8, a9, a10, a11, a12, a13, a14, a15, a16, a17, a18, a19, a20, a21, a22, a23, a24, a25⟩ := u
  have hc := tw_c2 h
  subst hc
  unfold wpX_value
  refine tw_bad2 (fun e => br_t rfl (tw_lay2 h (fun u' h' => ?_))) (fun e => br_t rfl (tw_lay2 h (fun u' h' => ?_))) (fun e e' => br_f (by decide) (hb e e'))
  · subst e
    obtain ⟨c, l, rs, rm, a1, a2, a3, a4, a5, a6, a7, a8, a9, a10, a11, a12, a13, a14, a15, a16, a17, a18, a19, a20, a21, a22, a23, a24, a25⟩ := u'
    obtain ⟨rfl, rfl, h1, h6, h6_, h7, h7_, h9, h9_, h10, h10_, hp, hw, hw_⟩ := h'
    refine tw_in (by simp [vp_in]) ?_
    refine tw_pass (Or.inl h10) hp (fun b13 b14 b15 q z e0 e1 => ?_)
    refine tw_in (by simp [vp_in]) (tw_in (by simp [vp_in, h10]) ?_)
    refine tw_pe (post := post) (r' := w0) (by simp [h10, e0, hw, hw_]) ?_
    exact hg0 rfl _ ⟨rfl, rfl, h1, h6, h6_, h7, h7_, h9, h9_, h10, h10_, q, by rw [z, e0, hw]; exact Int32.add_zero w0, by rw [z, e1, hw_]; exact Int32.add_zero w1⟩
  · subst e
    obtain ⟨c, l, rs, rm, a1, a2, a3, a4, a5, a6, a7, a8, a9, a10, a11, a12, a13, a14, a15, a16, a17, a18, a19, a20, a21, a22, a23, a24, a25⟩ := u'
    obtain ⟨rfl, rfl, h1, h6, h6_, h7, h7_, h9, h9_, h10, h10_, hp, hw, hw_⟩ := h'
    refine tw_in (by simp [vp_in]) ?_
    refine tw_pass (Or.inr h10_) hp (fun b13 b14 b15 q z e0 e1 => ?_)
    refine tw_in (by simp [vp_in]) (tw_in (by simp [vp_in, h10_]) ?_)
    refine tw_pe (post := post) (r' := w1) (by simp [h10_, e1, hw, hw_]) ?_
    exact hg1 rfl _ ⟨rfl, rfl, h1, h6, h6_, h7, h7_, h9, h9_, h10, h10_, q, by rw [z, e0, hw]; exact Int32.add_zero w0, by rw [z, e1, hw_]; exact Int32.add_zero w1⟩
theorem tw_put1 {w v x : Int32} {u : St2} (h : tw_S1 w u) (hg : v = 0 → ¬ x < -1000 → ¬ 1000 < x → ∀ u', tw_L1 x u' → post w u') (hb : ¬ (v = 0 ∧ ¬ x < -1000 ∧ ¬ 1000 < x) → post (-1000000) u) : wpX_put post u v x := by
  obtain ⟨c, l, rs, rm, a1, a2, a3, a4, a5, a6, a7, a8, a9, a10, a11, a12, a13, a14, a15, a16, a17, a18, a19, a20, a21, a22, a23, a24, a25⟩ := u
  have hc := tw_c1 h
  subst hc
  unfold wpX_put
  refine tw_bad1 (fun e => br_t rfl (br_c (fun z => hb (fun k => k.2.1 z)) (fun z => br_c (fun z2 => ?_) (fun z2 => hb (fun k => k.2.2 (Int32.not_le.mp z2)))))) (fun e => br_f (by decide) (hb (fun k => e k.1)))
  refine tw_val1 h (fun e u' h' => ?_) (fun ne => absurd e ne)
  subst e
  obtain ⟨c, l, rs, rm, a1, a2, a3, a4, a5, a6, a7, a8, a9, a10, a11, a12, a13, a14, a15, a16, a17, a18, a19, a20, a21, a22, a23, a24, a25⟩ := u'
  obtain ⟨rfl, rfl, h6, h7, h9, h10, hp, hw⟩ := h'
  refine tw_in (by simp [vp_in]) (tw_in (by simp [vp_in]) ?_)
  refine tw_add00 h10 h10 hp (fun b13 b14 b15 q e0 e1 => ?_)
  exact hg rfl z (Int32.not_lt.mpr z2) _ ⟨rfl, rfl, h6, h7, h9, h10, q, by rw [e0, hw]; exact tw_xw w x⟩
theorem tw_put2 {w0 w1 v x : Int32} {u : St2} (h : tw_S2 w0 w1 u) (hg0 : v = 0 → ¬ x < -1000 → ¬ 1000 < x → ∀ u', tw_L2 x w1 u' → post w0 u') (hg1 : v = 1 → ¬ x < -1000 → ¬ 1000 < x → ∀ u', tw_L2 w0 x u' → post w1 u') (hb : ¬ ((v = 0 ∨ v = 1) ∧ ¬ x < -1000 ∧ ¬ 1000 < x) → post (-1000000) u) : wpX_put post u v x := by
  obtain ⟨c, l, rs, rm, a1, a2, a3, a4, a5, a6, a7, a8, a9, a10, a11, a12, a13, a14, a15, a16, a17, a18, a19, a20, a21, a22, a23, a24, a25⟩ := u
  have hc := tw_c2 h
  subst hc
  unfold wpX_put
  refine tw_bad2 (fun e => ?_) (fun e => ?_) (fun e e' => br_f (by decide) (hb (fun k => k.1.elim e e')))
  all_goals
    refine br_t rfl (br_c (fun z => hb (fun k => k.2.1 z)) (fun z => br_c (fun z2 => ?_) (fun z2 => hb (fun k => k.2.2 (Int32.not_le.mp z2)))))
    refine tw_val2 h (fun e' u' h' => ?_) (fun e' u' h' => ?_) (fun n0 n1 => by first | exact absurd e n0 | exact absurd e n1)
    · subst e'
      obtain ⟨c, l, rs, rm, a1, a2, a3, a4, a5, a6, a7, a8, a9, a10, a11, a12, a13, a14, a15, a16, a17, a18, a19, a20, a21, a22, a23, a24, a25⟩ := u'
      obtain ⟨rfl, rfl, h1, h6, h6_, h7, h7_, h9, h9_, h10, h10_, hp, hw, hw_⟩ := h'
      refine tw_in (by simp [vp_in]) (tw_in (by simp [vp_in]) ?_)
      refine tw_add00 h10 h10 hp (fun b13 b14 b15 q e0 e1 => ?_)
      exact hg0 rfl z (Int32.not_lt.mpr z2) _ ⟨rfl, rfl, h1, h6, h6_, h7, h7_, h9, h9_, h10, h10_, q, by rw [e0, hw]; exact tw_xw w0 x, by rw [e1, hw_]⟩
    · subst e'
      obtain ⟨c, l, rs, rm, a1, a2, a3, a4, a5, a6, a7, a8, a9, a10, a11, a12, a13, a14, a15, a16, a17, a18, a19, a20, a21, a22, a23, a24, a25⟩ := u'
      obtain ⟨rfl, rfl, h1, h6, h6_, h7, h7_, h9, h9_, h10, h10_, hp, hw, hw_⟩ := h'
      refine tw_in (by simp [vp_in]) (tw_in (by simp [vp_in]) ?_)
      refine tw_add11 h10_ h10_ hp (fun b13 b14 b15 q e0 e1 => ?_)
      exact hg1 rfl z (Int32.not_lt.mpr z2) _ ⟨rfl, rfl, h1, h6, h6_, h7, h7_, h9, h9_, h10, h10_, q, by rw [e0, hw], by rw [e1, hw_]; exact tw_xw w1 x⟩
theorem tw_way1 {w v x : Int32} {u : St2} (h : tw_S1 w u) (hg : v = 0 → ¬ x < -100 → ¬ 100 < x → ∀ u', tw_L1 (w + x) u' → post 1 u') (hb : ¬ (v = 0 ∧ ¬ x < -100 ∧ ¬ 100 < x) → post (-1000000) u) : wpX_addWay post u v 0 x := by
  obtain ⟨c, l, rs, rm, a1, a2, a3, a4, a5, a6, a7, a8, a9, a10, a11, a12, a13, a14, a15, a16, a17, a18, a19, a20, a21, a22, a23, a24, a25⟩ := u
  have hc := tw_c1 h
  subst hc
  unfold wpX_addWay
  refine tw_bad1 (fun e => br_t rfl (tw_bad1 (fun _ => br_t rfl (br_c (fun z => hb (fun k => k.2.1 z)) (fun z => br_c (fun z2 => tw_lay1 h (fun u' h' => ?_)) (fun z2 => hb (fun k => k.2.2 (Int32.not_le.mp z2)))))) (fun ne => absurd rfl ne))) (fun e => br_f (by decide) (hb (fun k => e k.1)))
  subst e
  obtain ⟨c, l, rs, rm, a1, a2, a3, a4, a5, a6, a7, a8, a9, a10, a11, a12, a13, a14, a15, a16, a17, a18, a19, a20, a21, a22, a23, a24, a25⟩ := u'
  obtain ⟨rfl, rfl, h6, h7, h9, h10, hp, hw⟩ := h'
  repeat (first
    | (refine tw_in ?_ ?_; (focus (simp [vp_in, h9]; done)))
    | (refine br_t ?_ ?_; (focus (simp [h7, h9]; done)))
    | (refine br_f ?_ ?_; (focus (simp [h7, h9]; done)))
    | refine tw_add00 h10 h10 hp (fun b13 b14 b15 q e0 e1 => ?_)
    | refine Exists.intro 3 ?_)
  refine tw_pe (post := post) (r' := 1) (by simp [h7]) ?_
  exact hg rfl z (Int32.not_lt.mpr z2) _ ⟨rfl, rfl, h6, h7, h9, h10, q, by rw [e0, hw]⟩
theorem tw_way2 {w0 w1 v x : Int32} {u : St2} (h : tw_S2 w0 w1 u) (hg0 : v = 0 → ¬ x < -100 → ¬ 100 < x → ∀ u', tw_L2 (w0 + x) w1 u' → post 1 u') (hg1 : v = 1 → ¬ x < -100 → ¬ 100 < x → ∀ u', tw_L2 (w0 + x) (w1 + x) u' → post 2 u') (hb : ¬ ((v = 0 ∨ v = 1) ∧ ¬ x < -100 ∧ ¬ 100 < x) → post (-1000000) u) : wpX_addWay post u v 0 x := by
  obtain ⟨c, l, rs, rm, a1, a2, a3, a4, a5, a6, a7, a8, a9, a10, a11, a12, a13, a14, a15, a16, a17, a18, a19, a20, a21, a22, a23, a24, a25⟩ := u
  have hc := tw_c2 h
  subst hc
  unfold wpX_addWay
  refine tw_bad2 (fun e => br_t rfl (tw_bad2 (fun _ => br_t rfl (br_c (fun z => hb (fun k => k.2.1 z)) (fun z => br_c (fun z2 => tw_lay2 h (fun u' h' => ?_)) (fun z2 => hb (fun k => k.2.2 (Int32.not_le.mp z2)))))) (fun e2 => absurd e2 (by decide)) (fun ne _ => absurd rfl ne))) (fun e => br_t rfl (tw_bad2 (fun _ => br_t rfl (br_c (fun z => hb (fun k => k.2.1 z)) (fun z => br_c (fun z2 => tw_lay2 h (fun u' h' => ?_)) (fun z2 => hb (fun k => k.2.2 (Int32.not_le.mp z2)))))) (fun e2 => absurd e2 (by decide)) (fun ne _ => absurd rfl ne))) (fun e e' => br_f (by decide) (hb (fun k => k.1.elim e e')))
  · subst e
    obtain ⟨c, l, rs, rm, a1, a2, a3, a4, a5, a6, a7, a8, a9, a10, a11, a12, a13, a14, a15, a16, a17, a18, a19, a20, a21, a22, a23, a24, a25⟩ := u'
    obtain ⟨rfl, rfl, h1, h6, h6_, h7, h7_, h9, h9_, h10, h10_, hp, hw, hw_⟩ := h'
    repeat (first
      | (refine tw_in ?_ ?_; (focus (simp [vp_in, h9, h9_]; done)))
      | (refine br_t ?_ ?_; (focus (simp [h7, h7_, h9, h9_]; done)))
      | (refine br_f ?_ ?_; (focus (simp [h7, h7_, h9, h9_]; done)))
      | refine tw_add00 h10 h10 hp (fun b13 b14 b15 q e0 e1 => ?_)
      | refine Exists.intro 3 ?_)
    refine tw_pe (post := post) (r' := 1) (by simp [h7, h7_]) ?_
    exact hg0 rfl z (Int32.not_lt.mpr z2) _ ⟨rfl, rfl, h1, h6, h6_, h7, h7_, h9, h9_, h10, h10_, q, by rw [e0, hw], by rw [e1, hw_]⟩
  · subst e
    obtain ⟨c, l, rs, rm, a1, a2, a3, a4, a5, a6, a7, a8, a9, a10, a11, a12, a13, a14, a15, a16, a17, a18, a19, a20, a21, a22, a23, a24, a25⟩ := u'
    obtain ⟨rfl, rfl, h1, h6, h6_, h7, h7_, h9, h9_, h10, h10_, hp, hw, hw_⟩ := h'
    repeat (first
      | (refine tw_in ?_ ?_; (focus (simp [vp_in, h9, h9_]; done)))
      | (refine br_t ?_ ?_; (focus (simp [h7, h7_, h9, h9_]; done)))
      | (refine br_f ?_ ?_; (focus (simp [h7, h7_, h9, h9_]; done)))
      | refine tw_add01 h10 h10_ hp (fun b13 b14 b15 q e0 e1 => ?_)
      | refine Exists.intro 3 ?_)
    refine tw_pe (post := post) (r' := 2) (by simp [h7, h7_]) ?_
    exact hg1 rfl z (Int32.not_lt.mpr z2) _ ⟨rfl, rfl, h1, h6, h6_, h7, h7_, h9, h9_, h10, h10_, q, by rw [e0, hw], by rw [e1, hw_]⟩
end
end
section
section
variable {c l rs rm : Int32} {a1 a2 a3 a4 a5 a6 a7 a8 a9 a10 a11 a12 a13 a14 a15 a16 a17 a18 a19 a20 a21 a22 a23 a24 a25 : Nat → Int32}
theorem tw_save1 {post : St2 → Prop} {w : Int32} {u : St2} (h : tw_S1 w u) (H : ∀ u', tw_U1 w u' → post u') : wpX_save post u := by
  obtain ⟨c, l, rs, rm, a1, a2, a3, a4, a5, a6, a7, a8, a9, a10, a11, a12, a13, a14, a15, a16, a17, a18, a19, a20, a21, a22, a23, a24, a25⟩ := u
  unfold wpX_save
  refine tw_lay1 h (fun u' h' => ?_)
  obtain ⟨c, l, rs, rm, a1, a2, a3, a4, a5, a6, a7, a8, a9, a10, a11, a12, a13, a14, a15, a16, a17, a18, a19, a20, a21, a22, a23, a24, a25⟩ := u'
  obtain ⟨rfl, rfl, h6, h7, h9, h10, hp, hw⟩ := h'
  refine ⟨2, br_f (by decide) (tw_in (by simp [vp_in]) (nm_e ?_))⟩
  refine tw_pass (Or.inl h10) hp (fun b13 b14 b15 q z e0 e1 => ?_)
  refine tw_in (by simp [vp_in, h10]) (tw_in (by simp [vp_in]) (nm_e (nm_r (show (0 : Int32) + 1 = 1 by decide) (br_t (by decide) ?_))))
  exact H _ ⟨rfl, rfl, by simp [tw_u, h10, e0, hw]⟩
theorem tw_save2 {post : St2 → Prop} {w0 w1 : Int32} {u : St2} (h : tw_S2 w0 w1 u) (H : ∀ u', tw_U2 w0 w1 u' → post u') : wpX_save post u := by
  obtain ⟨c, l, rs, rm, a1, a2, a3, a4, a5, a6, a7, a8, a9, a10, a11, a12, a13, a14, a15, a16, a17, a18, a19, a20, a21, a22, a23, a24, a25⟩ := u
  unfold wpX_save
  refine tw_lay2 h (fun u' h' => ?_)
  obtain ⟨c, l, rs, rm, a1, a2, a3, a4, a5, a6, a7, a8, a9, a10, a11, a12, a13, a14, a15, a16, a17, a18, a19, a20, a21, a22, a23, a24, a25⟩ := u'
  obtain ⟨rfl, rfl, h1, h6, h6_, h7, h7_, h9, h9_, h10, h10_, hp, hw, hw_⟩ := h'
  refine ⟨3, br_f (by decide) (tw_in (by simp [vp_in]) (nm_e ?_))⟩
  refine tw_pass (Or.inl h10) hp (fun b13 b14 b15 q z e0 e1 => ?_)
  refine tw_in (by simp [vp_in, h10]) (tw_in (by simp [vp_in]) (nm_e (nm_r (show (0 : Int32) + 1 = 1 by decide) (br_f (by decide) (tw_in (by simp [vp_in]) (nm_e ?_))))))
  refine tw_pass (Or.inr h10_) q (fun d13 d14 d15 q' z' f0 f1 => ?_)
  refine tw_in (by simp [vp_in, h10_]) (tw_in (by simp [vp_in]) (nm_e (nm_r (show (1 : Int32) + 1 = 2 by decide) (br_t (by decide) ?_))))
  exact H _ ⟨rfl, rfl, h1, by simp [tw_u, h10, e0, hw], by simp [tw_u, h10_, f1, z, e1, hw_]⟩
theorem tw_grow {post : Int32 → St2 → Prop} {w v : Int32} {u : St2} (h : tw_S1 w u) (hg : v = 0 → ∀ u', tw_U2 w 0 u' → post 1 u') (hb : ¬ v = 0 → post (-1000000) u) : wpX_grow post u v := by
  obtain ⟨c, l, rs, rm, a1, a2, a3, a4, a5, a6, a7, a8, a9, a10, a11, a12, a13, a14, a15, a16, a17, a18, a19, a20, a21, a22, a23, a24, a25⟩ := u
  have hc := tw_c1 h
  subst hc
  unfold wpX_grow
  refine tw_bad1 (fun e => br_t rfl (br_f (by decide) (tw_save1 h (fun u' h' => ?_)))) (fun e => br_f (by decide) (hb e))
  subst e
  obtain ⟨c, l, rs, rm, a1, a2, a3, a4, a5, a6, a7, a8, a9, a10, a11, a12, a13, a14, a15, a16, a17, a18, a19, a20, a21, a22, a23, a24, a25⟩ := u'
  obtain ⟨rfl, rfl, hw⟩ := h'
  refine tw_in (by simp [vp_in]) (nm_e (tw_in (by simp [vp_in]) (nm_e (nm_r (show (1 : Int32) + 1 = 2 by decide) ?_))))
  refine tw_pe (post := post) (r' := 1) (by decide) ?_
  exact hg rfl _ ⟨rfl, rfl, by simp [tw_u], by simp [tw_u, hw], by simp [tw_u]⟩
theorem tw_move1 {post : Int32 → St2 → Prop} {w v x : Int32} {u : St2} (h : tw_S1 w u) (hg : v = 0 → x = 0 → ∀ u', tw_L1 w u' → post (-3000000) u') (hb : ¬ (v = 0 ∧ x = 0) → post (-1000000) u) : wpX_move post u v x := by
  obtain ⟨c, l, rs, rm, a1, a2, a3, a4, a5, a6, a7, a8, a9, a10, a11, a12, a13, a14, a15, a16, a17, a18, a19, a20, a21, a22, a23, a24, a25⟩ := u
  have hc := tw_c1 h
  subst hc
  unfold wpX_move
  refine tw_bad1 (fun e => br_t rfl (tw_bad1 (fun e' => br_t rfl (tw_lay1 h (fun u' h' => ?_))) (fun ne => br_f (by decide) (hb (fun k => ne k.2))))) (fun ne => br_f (by decide) (hb (fun k => ne k.1)))
  subst e e'
  obtain ⟨c, l, rs, rm, a1, a2, a3, a4, a5, a6, a7, a8, a9, a10, a11, a12, a13, a14, a15, a16, a17, a18, a19, a20, a21, a22, a23, a24, a25⟩ := u'
  have h2 := h'
  obtain ⟨rfl, rfl, h6, h7, h9, h10, hp, hw⟩ := h'
  refine tw_in (by simp [vp_in]) (tw_in (by simp [vp_in]) (br_f (by simp [h10]) (tw_in (by simp [vp_in]) (tw_in (by simp [vp_in]) (tw_in (by simp [vp_in]) (br_f (by simp [h6, h10]) ?_))))))
  exact br_t rfl (hg rfl rfl _ h2)
theorem tw_move2 {post : Int32 → St2 → Prop} {w0 w1 v x : Int32} {u : St2} (h : tw_S2 w0 w1 u) (hg : (v = 0 ∨ v = 1) → (x = 0 ∨ x = 1) → (v = 0 ∨ x = v) → ∀ u', tw_L2 w0 w1 u' → post (-3000000) u') (hm : v = 1 → x = 0 → ∀ u', tw_U2 w0 w1 u' → post 0 u') (hb : ¬ ((v = 0 ∨ v = 1) ∧ (x = 0 ∨ x = 1)) → post (-1000000) u) : wpX_move post u v x := by
  obtain ⟨c, l, rs, rm, a1, a2, a3, a4, a5, a6, a7, a8, a9, a10, a11, a12, a13, a14, a15, a16, a17, a18, a19, a20, a21, a22, a23, a24, a25⟩ := u
  have hc := tw_c2 h
  subst hc
  unfold wpX_move
  refine tw_bad2 (fun e => br_t rfl (tw_bad2 (fun e' => br_t rfl (tw_lay2 h (fun u' h' => ?_))) (fun e' => br_t rfl (tw_lay2 h (fun u' h' => ?_))) (fun n0 n1 => br_f (by decide) (hb (fun k => k.2.elim n0 n1))))) (fun e => br_t rfl (tw_bad2 (fun e' => br_t rfl (tw_lay2 h (fun u' h' => ?_))) (fun e' => br_t rfl (tw_lay2 h (fun u' h' => ?_))) (fun n0 n1 => br_f (by decide) (hb (fun k => k.2.elim n0 n1))))) (fun n0 n1 => br_f (by decide) (hb (fun k => k.1.elim n0 n1)))
  · subst e e'
    obtain ⟨c, l, rs, rm, a1, a2, a3, a4, a5, a6, a7, a8, a9, a10, a11, a12, a13, a14, a15, a16, a17, a18, a19, a20, a21, a22, a23, a24, a25⟩ := u'
    have h2 := h'
    obtain ⟨rfl, rfl, h1, h6, h6_, h7, h7_, h9, h9_, h10, h10_, hp, hw, hw_⟩ := h'
    repeat (first
      | (refine tw_in ?_ ?_; (focus (simp [vp_in]; done)))
      | (refine br_t ?_ ?_; (focus (simp [h6, h6_, h10, h10_]; done)))
      | (refine br_f ?_ ?_; (focus (simp [h6, h6_, h10, h10_]; done))))
    exact hg (Or.inl rfl) (Or.inl rfl) (Or.inl rfl) _ h2
  · subst e e'
    obtain ⟨c, l, rs, rm, a1, a2, a3, a4, a5, a6, a7, a8, a9, a10, a11, a12, a13, a14, a15, a16, a17, a18, a19, a20, a21, a22, a23, a24, a25⟩ := u'
    have h2 := h'
    obtain ⟨rfl, rfl, h1, h6, h6_, h7, h7_, h9, h9_, h10, h10_, hp, hw, hw_⟩ := h'
    repeat (first
      | (refine tw_in ?_ ?_; (focus (simp [vp_in]; done)))
      | (refine br_t ?_ ?_; (focus (simp [h6, h6_, h10, h10_]; done)))
      | (refine br_f ?_ ?_; (focus (simp [h6, h6_, h10, h10_]; done))))
    exact hg (Or.inl rfl) (Or.inr rfl) (Or.inl rfl) _ h2
  · subst e e'
    obtain ⟨c, l, rs, rm, a1, a2, a3, a4, a5, a6, a7, a8, a9, a10, a11, a12, a13, a14, a15, a16, a17, a18, a19, a20, a21, a22, a23, a24, a25⟩ := u'
    have h2 := h'
    obtain ⟨rfl, rfl, h1, h6, h6_, h7, h7_, h9, h9_, h10, h10_, hp, hw, hw_⟩ := h'
    refine tw_in (by simp [vp_in]) (tw_in (by simp [vp_in]) (br_t (by simp [h10, h10_]) (br_f (by decide) (br_t rfl ?_))))
    refine tw_save2 (Or.inr h2) (fun u' h' => ?_)
    obtain ⟨c, l, rs, rm, a1, a2, a3, a4, a5, a6, a7, a8, a9, a10, a11, a12, a13, a14, a15, a16, a17, a18, a19, a20, a21, a22, a23, a24, a25⟩ := u'
    obtain ⟨rfl, rfl, k1, k4, k4_⟩ := h'
    refine tw_in (by simp [vp_in]) (nm_r k1 (tw_in (by simp [vp_in]) (nm_e ?_)))
    exact hm rfl rfl _ ⟨rfl, rfl, by simp [tw_u], k4, k4_⟩
  · subst e e'
    obtain ⟨c, l, rs, rm, a1, a2, a3, a4, a5, a6, a7, a8, a9, a10, a11, a12, a13, a14, a15, a16, a17, a18, a19, a20, a21, a22, a23, a24, a25⟩ := u'
    have h2 := h'
    obtain ⟨rfl, rfl, h1, h6, h6_, h7, h7_, h9, h9_, h10, h10_, hp, hw, hw_⟩ := h'
    repeat (first
      | (refine tw_in ?_ ?_; (focus (simp [vp_in]; done)))
      | (refine br_t ?_ ?_; (focus (simp [h6, h6_, h10, h10_]; done)))
      | (refine br_f ?_ ?_; (focus (simp [h6, h6_, h10, h10_]; done))))
    exact hg (Or.inr rfl) (Or.inr rfl) (Or.inr rfl) _ h2
theorem tw_par1 {post : Int32 → Prop} {w v : Int32} {u : St2} (h : tw_S1 w u) (hg : v = 0 → post (-3000000)) (hb : ¬ v = 0 → post (-1000000)) : wpX_parent post u v := by
  obtain ⟨c, l, rs, rm, a1, a2, a3, a4, a5, a6, a7, a8, a9, a10, a11, a12, a13, a14, a15, a16, a17, a18, a19, a20, a21, a22, a23, a24, a25⟩ := u
  have hc := tw_c1 h
  subst hc
  unfold wpX_parent
  exact tw_bad1 (fun e => br_t rfl (br_t e (hg e))) (fun e => br_f (by decide) (hb e))
theorem tw_par2 {post : Int32 → Prop} {w0 w1 v : Int32} {u : St2} (h : tw_S2 w0 w1 u) (hg0 : v = 0 → post (-3000000)) (hg1 : v = 1 → post 0) (hb : ¬ v = 0 → ¬ v = 1 → post (-1000000)) : wpX_parent post u v := by
  obtain ⟨c, l, rs, rm, a1, a2, a3, a4, a5, a6, a7, a8, a9, a10, a11, a12, a13, a14, a15, a16, a17, a18, a19, a20, a21, a22, a23, a24, a25⟩ := u
  have hc := tw_c2 h
  subst hc
  have h1 : a1 1 = 0 := by
    rcases h with h | h <;> exact h.2.2.1
  unfold wpX_parent
  refine tw_bad2 (fun e => br_t rfl (br_t e (hg0 e))) (fun e => br_t rfl (br_f (by rw [e]; decide) ?_)) (fun e e' => br_f (by decide) (hb e e'))
  subst e
  refine tw_in (by simp [vp_in]) ?_
  exact tw_pi (post := post) h1 (hg1 rfl)
end
end
section
section
variable {post : Int32 → St2 → Prop}
theorem tw_put1r {w v x : Int32} {u : St2} (h : tw_S1 w u) (H : ∀ (r w' : Int32) (u' : St2), tw_S1 w' u' → ((v = 0 ∧ ¬ x < -1000 ∧ ¬ 1000 < x) → r = w ∧ w' = x) → (¬ (v = 0 ∧ ¬ x < -1000 ∧ ¬ 1000 < x) → r = -1000000 ∧ w' = w) → post r u') : wpX_put post u v x :=
  tw_put1 h (fun e z z2 u' h' => H w x u' (Or.inr h') (fun _ => ⟨rfl, rfl⟩) (fun n => absurd ⟨e, z, z2⟩ n)) (fun n => H _ w u h (fun k => absurd k n) (fun _ => ⟨rfl, rfl⟩))
theorem tw_way1r {w v x : Int32} {u : St2} (h : tw_S1 w u) (H : ∀ (r w' : Int32) (u' : St2), tw_S1 w' u' → ((v = 0 ∧ ¬ x < -100 ∧ ¬ 100 < x) → r = 1 ∧ w' = w + x) → (¬ (v = 0 ∧ ¬ x < -100 ∧ ¬ 100 < x) → r = -1000000 ∧ w' = w) → post r u') : wpX_addWay post u v 0 x :=
  tw_way1 h (fun e z z2 u' h' => H 1 (w + x) u' (Or.inr h') (fun _ => ⟨rfl, rfl⟩) (fun n => absurd ⟨e, z, z2⟩ n)) (fun n => H _ w u h (fun k => absurd k n) (fun _ => ⟨rfl, rfl⟩))
theorem tw_move1r {w v x : Int32} {u : St2} (h : tw_S1 w u) (H : ∀ (r : Int32) (u' : St2), tw_S1 w u' → ((v = 0 ∧ x = 0) → r = -3000000) → (¬ (v = 0 ∧ x = 0) → r = -1000000) → post r u') : wpX_move post u v x :=
  tw_move1 h (fun e z u' h' => H _ u' (Or.inr h') (fun _ => rfl) (fun n => absurd ⟨e, z⟩ n)) (fun n => H _ u h (fun k => absurd k n) (fun _ => rfl))
theorem tw_val1r {w v : Int32} {u : St2} (h : tw_S1 w u) (H : ∀ (r : Int32) (u' : St2), tw_S1 w u' → (v = 0 → r = w) → (¬ v = 0 → r = -1000000) → post r u') : wpX_value post u v :=
  tw_val1 h (fun e u' h' => H _ u' (Or.inr h') (fun _ => rfl) (fun n => absurd e n)) (fun n => H _ u h (fun k => absurd k n) (fun _ => rfl))
theorem tw_par1r {post : Int32 → Prop} {w v : Int32} {u : St2} (h : tw_S1 w u) (H : ∀ r : Int32, (v = 0 → r = -3000000) → (¬ v = 0 → r = -1000000) → post r) : wpX_parent post u v :=
  tw_par1 h (fun e => H _ (fun _ => rfl) (fun n => absurd e n)) (fun n => H _ (fun k => absurd k n) (fun _ => rfl))
theorem tw_01 {v : Int32} (h0 : v = 0) (h1 : v = 1) : False := by
  subst h0; exact absurd h1 (by decide)
theorem tw_put2r {w0 w1 v x : Int32} {u : St2} (h : tw_S2 w0 w1 u) (H : ∀ (r y0 y1 : Int32) (u' : St2), tw_S2 y0 y1 u' → ((v = 0 ∧ ¬ x < -1000 ∧ ¬ 1000 < x) → r = w0 ∧ y0 = x ∧ y1 = w1) → ((v = 1 ∧ ¬ x < -1000 ∧ ¬ 1000 < x) → r = w1 ∧ y0 = w0 ∧ y1 = x) → (¬ ((v = 0 ∨ v = 1) ∧ ¬ x < -1000 ∧ ¬ 1000 < x) → r = -1000000 ∧ y0 = w0 ∧ y1 = w1) → post r u') : wpX_put post u v x :=
  tw_put2 h (fun e z z2 u' h' => H w0 x w1 u' (Or.inr h') (fun _ => ⟨rfl, rfl, rfl⟩) (fun k => (tw_01 e k.1).elim) (fun n => absurd ⟨Or.inl e, z, z2⟩ n))
    (fun e z z2 u' h' => H w1 w0 x u' (Or.inr h') (fun k => (tw_01 k.1 e).elim) (fun _ => ⟨rfl, rfl, rfl⟩) (fun n => absurd ⟨Or.inr e, z, z2⟩ n))
    (fun n => H _ w0 w1 u h (fun k => absurd ⟨Or.inl k.1, k.2⟩ n) (fun k => absurd ⟨Or.inr k.1, k.2⟩ n) (fun _ => ⟨rfl, rfl, rfl⟩))
theorem tw_way2r {w0 w1 v x : Int32} {u : St2} (h : tw_S2 w0 w1 u) (H : ∀ (r y0 y1 : Int32) (u' : St2), tw_S2 y0 y1 u' → ((v = 0 ∧ ¬ x < -100 ∧ ¬ 100 < x) → r = 1 ∧ y0 = w0 + x ∧ y1 = w1) → ((v = 1 ∧ ¬ x < -100 ∧ ¬ 100 < x) → r = 2 ∧ y0 = w0 + x ∧ y1 = w1 + x) → (¬ ((v = 0 ∨ v = 1) ∧ ¬ x < -100 ∧ ¬ 100 < x) → r = -1000000 ∧ y0 = w0 ∧ y1 = w1) → post r u') : wpX_addWay post u v 0 x :=
  tw_way2 h (fun e z z2 u' h' => H 1 _ _ u' (Or.inr h') (fun _ => ⟨rfl, rfl, rfl⟩) (fun k => (tw_01 e k.1).elim) (fun n => absurd ⟨Or.inl e, z, z2⟩ n))
    (fun e z z2 u' h' => H 2 _ _ u' (Or.inr h') (fun k => (tw_01 k.1 e).elim) (fun _ => ⟨rfl, rfl, rfl⟩) (fun n => absurd ⟨Or.inr e, z, z2⟩ n))
    (fun n => H _ w0 w1 u h (fun k => absurd ⟨Or.inl k.1, k.2⟩ n) (fun k => absurd ⟨Or.inr k.1, k.2⟩ n) (fun _ => ⟨rfl, rfl, rfl⟩))
theorem tw_move2r {w0 w1 v x : Int32} {u : St2} (h : tw_S2 w0 w1 u) (H : ∀ (r : Int32) (u' : St2), tw_S2 w0 w1 u' → ((v = 0 ∨ v = 1) → (x = 0 ∨ x = 1) → (v = 0 ∨ x = v) → r = -3000000) → ((v = 0 ∨ v = 1) → (x = 0 ∨ x = 1) → ¬ (v = 0 ∨ x = v) → r = 0) → (¬ ((v = 0 ∨ v = 1) ∧ (x = 0 ∨ x = 1)) → r = -1000000) → post r u') : wpX_move post u v x :=
  tw_move2 h (fun e e' z u' h' => H _ u' (Or.inr h') (fun _ _ _ => rfl) (fun _ _ n => absurd z n) (fun n => absurd ⟨e, e'⟩ n))
    (fun e e' u' h' => H _ u' (Or.inl h') (fun _ _ z => z.elim (fun z => (tw_01 z e).elim) (fun z => (tw_01 e' (z.trans e)).elim)) (fun _ _ _ => rfl) (fun n => absurd ⟨Or.inr e, Or.inl e'⟩ n))
    (fun n => H _ u h (fun k k' _ => absurd ⟨k, k'⟩ n) (fun k k' _ => absurd ⟨k, k'⟩ n) (fun _ => rfl))
theorem tw_val2r {w0 w1 v : Int32} {u : St2} (h : tw_S2 w0 w1 u) (H : ∀ (r : Int32) (u' : St2), tw_S2 w0 w1 u' → (v = 0 → r = w0) → (v = 1 → r = w1) → (¬ (v = 0 ∨ v = 1) → r = -1000000) → post r u') : wpX_value post u v :=
  tw_val2 h (fun e u' h' => H _ u' (Or.inr h') (fun _ => rfl) (fun k => (tw_01 e k).elim) (fun n => absurd (Or.inl e) n))
    (fun e u' h' => H _ u' (Or.inr h') (fun k => (tw_01 k e).elim) (fun _ => rfl) (fun n => absurd (Or.inr e) n))
    (fun n0 n1 => H _ u h (fun k => absurd k n0) (fun k => absurd k n1) (fun _ => rfl))
theorem tw_par2r {post : Int32 → Prop} {w0 w1 v : Int32} {u : St2} (h : tw_S2 w0 w1 u) (H : ∀ r : Int32, (v = 0 → r = -3000000) → (v = 1 → r = 0) → (¬ (v = 0 ∨ v = 1) → r = -1000000) → post r) : wpX_parent post u v :=
  tw_par2 h (fun e => H _ (fun _ => rfl) (fun k => (tw_01 e k).elim) (fun n => absurd (Or.inl e) n))
    (fun e => H _ (fun k => (tw_01 k e).elim) (fun _ => rfl) (fun n => absurd (Or.inr e) n))
    (fun n0 n1 => H _ (fun k => absurd k n0) (fun k => absurd k n1) (fun _ => rfl))
end
end
section
section
variable {post : Int32 → St0 → Prop} {mc ms kc ks : Nat} {x0 x1 x2 x3 x4 x6 x7 x8 x9 x10 x11 : Int32}
theorem tw_t157 {x13 x14 x15 x16 : Int32} (hp : post 1 ()) (q0 : x0 = 0 → x6 = 1) (q1 : ¬ x0 = 0 → x6 = -1000000) (o0 : x15 = 0 → x7 = -1000000) (o1 : ¬ x15 = 0 → x7 = 0) (n0 : x16 = 0 → x8 = -1000000) (n1 : ¬ x16 = 0 → x8 = x3 + 1)
    (m0 : x13 = 0 → x9 = -1000000) (m1 : x14 = 0 → x9 = -1000000) (m2 : ¬ x13 = 0 → ¬ x14 = 0 → (x1 = 0 ∨ x3 = x1) → x9 = -3000000) (m3 : ¬ x13 = 0 → ¬ x14 = 0 → ¬ (x1 = 0 ∨ x3 = x1) → x9 = 0)
    (v0 : x13 = 0 → x10 = -1000000) (v1 : ∀ f, (x15 = 0 → f = 0) → (¬ x15 = 0 → f = x2) → ¬ x13 = 0 → ((¬ x16 = 0 ∧ (x1 = 0 ∨ x1 = x3)) → x10 = f + x4) ∧ (¬ (¬ x16 = 0 ∧ (x1 = 0 ∨ x1 = x3)) → x10 = f))
    (u0 : x14 = 0 → x11 = -1000000) (u1 : ¬ x14 = 0 → x3 = 0 → x11 = -3000000) (u2 : ¬ x14 = 0 → ¬ x3 = 0 → x11 = 0) :
    wL_lawOf_157 post mc ms x0 x1 x2 x3 x4 x6 x7 x8 x9 x10 x11 x13 x14 x15 x16 kc ks := by
  have t295 : ∀ z, x10 = z → wL_lawOf_295 post mc ms x3 x11 x14 z x10 kc ks := fun z e => br_t e (br_c (fun k => br_t (u0 k) hp) (fun k => br_c (fun k2 => br_t (u1 k k2) hp) (fun k2 => br_t (u2 k k2) hp)))
  have t195 : ∀ d, (¬ x13 = 0 → x10 = d) → wL_lawOf_195 post mc ms x0 x1 x3 x6 x7 x8 x9 x10 x11 x13 x14 x15 x16 d kc ks := by
    intro d hd
    have t278 : ∀ z, x9 = z → wL_lawOf_278 post mc ms x3 x10 x11 x13 x14 d z x9 kc ks := fun z e => br_t e (br_c (fun k => t295 _ (v0 k)) (fun k => t295 _ (hd k)))
    have t243 : ∀ z, x8 = z → wL_lawOf_243 post mc ms x1 x3 x9 x10 x11 x13 x14 d z x8 kc ks := fun z e => br_t e (br_c (fun k => t278 _ (m0 k)) (fun k => br_c (fun k2 => t278 _ (m1 k2)) (fun k2 => br_c (fun j => t278 _ (m2 k k2 (Or.inl j))) (fun j => br_c (fun j2 => t278 _ (m2 k k2 (Or.inr j2))) (fun j2 => t278 _ (m3 k k2 (fun o => o.elim j j2)))))))
    have t225 : ∀ z, x7 = z → wL_lawOf_225 post mc ms x1 x3 x8 x9 x10 x11 x13 x14 x16 d z x7 kc ks := fun z e => br_t e (br_c (fun k => t243 _ (n0 k)) (fun k => t243 _ (n1 k)))
    have t209 : ∀ z, x6 = z → wL_lawOf_209 post mc ms x1 x3 x7 x8 x9 x10 x11 x13 x14 x15 x16 d z x6 kc ks := fun z e => br_t e (br_c (fun k => t225 _ (o0 k)) (fun k => t225 _ (o1 k)))
    exact br_c (fun k => br_t (q0 k) (br_c (fun k => t225 _ (o0 k)) (fun k => t225 _ (o1 k)))) (fun k => t209 _ (q1 k))
  have t169 : ∀ f, (x15 = 0 → f = 0) → (¬ x15 = 0 → f = x2) → wL_lawOf_169 post mc ms x0 x1 x3 x4 x6 x7 x8 x9 x10 x11 x13 x14 x15 x16 f kc ks := by
    intro f f0 f1
    have v2 := v1 f f0 f1
    exact br_c (fun k => t195 f (fun h => (v2 h).2 (fun o => o.1 k))) (fun k => br_c (fun j => t195 (f + x4) (fun h => (v2 h).1 ⟨k, Or.inl j⟩)) (fun j => br_c (fun j2 => t195 (f + x4) (fun h => (v2 h).1 ⟨k, Or.inr j2⟩)) (fun j2 => t195 f (fun h => (v2 h).2 (fun o => o.2.elim j j2)))))
  exact br_c (fun k => t169 0 (fun _ => rfl) (fun n => absurd k n)) (fun k => t169 x2 (fun z => absurd z k) (fun _ => rfl))
theorem tw_nn {x : Int32} {P : Prop} (h : x = 0 ↔ ¬ P) (k : ¬ x = 0) : P := Classical.byContradiction (fun n => k (h.mpr n))
theorem tw_f0 {P : Prop} (h : ¬ P) : (0 : Int32) = 0 ↔ ¬ P := ⟨fun _ => h, fun _ => rfl⟩
theorem tw_f1 {P : Prop} (h : P) : (1 : Int32) = 0 ↔ ¬ P := ⟨fun z => absurd z (by decide), fun n => absurd h n⟩
theorem tw_tail {z : Int32} (V U : Prop) (hV : ¬ x1 < 0 → ¬ z ≤ x1 → V) (hV1 : x1 < 0 → ¬ V) (hV2 : z ≤ x1 → ¬ V) (hU : ¬ x3 < 0 → ¬ z ≤ x3 → U) (hU1 : x3 < 0 → ¬ U) (hU2 : z ≤ x3 → ¬ U) (hp : post 1 ())
    (q0 : x0 = 0 → x6 = 1) (q1 : ¬ x0 = 0 → x6 = -1000000)
    (o1 : (V ∧ ¬ x2 < -1000 ∧ ¬ 1000 < x2) → x7 = 0) (o0 : ¬ (V ∧ ¬ x2 < -1000 ∧ ¬ 1000 < x2) → x7 = -1000000)
    (n1 : (U ∧ ¬ x4 < -100 ∧ ¬ 100 < x4) → x8 = x3 + 1) (n0 : ¬ (U ∧ ¬ x4 < -100 ∧ ¬ 100 < x4) → x8 = -1000000)
    (m0 : ¬ (V ∧ U) → x9 = -1000000) (m2 : V → U → (x1 = 0 ∨ x3 = x1) → x9 = -3000000) (m3 : V → U → ¬ (x1 = 0 ∨ x3 = x1) → x9 = 0)
    (v0 : ¬ V → x10 = -1000000) (v1 : ∀ f, (¬ (V ∧ ¬ x2 < -1000 ∧ ¬ 1000 < x2) → f = 0) → ((V ∧ ¬ x2 < -1000 ∧ ¬ 1000 < x2) → f = x2) → V → (((U ∧ ¬ x4 < -100 ∧ ¬ 100 < x4) ∧ (x1 = 0 ∨ x1 = x3)) → x10 = f + x4) ∧ (¬ ((U ∧ ¬ x4 < -100 ∧ ¬ 100 < x4) ∧ (x1 = 0 ∨ x1 = x3)) → x10 = f))
    (u0 : ¬ U → x11 = -1000000) (u1 : U → x3 = 0 → x11 = -3000000) (u2 : U → ¬ x3 = 0 → x11 = 0) :
    wL_lawOf_71 post mc ms x0 x1 x2 x3 x4 x6 x7 x8 x9 x10 x11 z kc ks := by
  have t157 : ∀ x13 x14 x15 x16 : Int32, (x13 = 0 ↔ ¬ V) → (x14 = 0 ↔ ¬ U) → (x15 = 0 ↔ ¬ (V ∧ ¬ x2 < -1000 ∧ ¬ 1000 < x2)) → (x16 = 0 ↔ ¬ (U ∧ ¬ x4 < -100 ∧ ¬ 100 < x4)) → wL_lawOf_157 post mc ms x0 x1 x2 x3 x4 x6 x7 x8 x9 x10 x11 x13 x14 x15 x16 kc ks :=
    fun x13 x14 x15 x16 h13 h14 h15 h16 => tw_t157 hp q0 q1 (fun k => o0 (h15.mp k)) (fun k => o1 (tw_nn h15 k)) (fun k => n0 (h16.mp k)) (fun k => n1 (tw_nn h16 k))
      (fun k => m0 (fun o => h13.mp k o.1)) (fun k => m0 (fun o => h14.mp k o.2)) (fun k k2 => m2 (tw_nn h13 k) (tw_nn h14 k2)) (fun k k2 => m3 (tw_nn h13 k) (tw_nn h14 k2))
      (fun k => v0 (h13.mp k)) (fun f f0 f1 k => ⟨fun o => (v1 f (fun n => f0 (h15.mpr n)) (fun y => f1 (fun e => h15.mp e y)) (tw_nn h13 k)).1 ⟨tw_nn h16 o.1, o.2⟩, fun o => (v1 f (fun n => f0 (h15.mpr n)) (fun y => f1 (fun e => h15.mp e y)) (tw_nn h13 k)).2 (fun y => o ⟨fun e => h16.mp e y.1, y.2⟩)⟩)
      (fun k => u0 (h14.mp k)) (fun k => u1 (tw_nn h14 k)) (fun k => u2 (tw_nn h14 k))
  have t131 : ∀ x13 x14 x15 : Int32, (x13 = 0 ↔ ¬ V) → (x14 = 0 ↔ ¬ U) → (x15 = 0 ↔ ¬ (V ∧ ¬ x2 < -1000 ∧ ¬ 1000 < x2)) → wL_lawOf_131 post mc ms x0 x1 x2 x3 x4 x6 x7 x8 x9 x10 x11 x13 x14 x15 kc ks :=
    fun x13 x14 x15 h13 h14 h15 => br_c (fun k => t157 x13 x14 x15 0 h13 h14 h15 (tw_f0 (fun o => h14.mp k o.1))) (fun k => br_c (fun k2 => t157 x13 x14 x15 0 h13 h14 h15 (tw_f0 (fun o => o.2.1 k2))) (fun k2 => br_c (fun k3 => t157 x13 x14 x15 0 h13 h14 h15 (tw_f0 (fun o => o.2.2 k3))) (fun k3 => t157 x13 x14 x15 1 h13 h14 h15 (tw_f1 ⟨tw_nn h14 k, k2, k3⟩))))
  have t105 : ∀ x13 x14 : Int32, (x13 = 0 ↔ ¬ V) → (x14 = 0 ↔ ¬ U) → wL_lawOf_105 post mc ms x0 x1 x2 x3 x4 x6 x7 x8 x9 x10 x11 x13 x14 kc ks :=
    fun x13 x14 h13 h14 => br_c (fun k => t131 x13 x14 0 h13 h14 (tw_f0 (fun o => h13.mp k o.1))) (fun k => br_c (fun k2 => t131 x13 x14 0 h13 h14 (tw_f0 (fun o => o.2.1 k2))) (fun k2 => br_c (fun k3 => t131 x13 x14 0 h13 h14 (tw_f0 (fun o => o.2.2 k3))) (fun k3 => t131 x13 x14 1 h13 h14 (tw_f1 ⟨tw_nn h13 k, k2, k3⟩))))
  have t88 : ∀ x13 : Int32, (x13 = 0 ↔ ¬ V) → wL_lawOf_88 post mc ms x0 x1 x2 x3 x4 x6 x7 x8 x9 x10 x11 z x13 kc ks :=
    fun x13 h13 => br_c (fun k => t105 x13 0 h13 (tw_f0 (hU1 k))) (fun k => br_c (fun k2 => t105 x13 0 h13 (tw_f0 (hU2 k2))) (fun k2 => t105 x13 1 h13 (tw_f1 (hU k k2))))
  exact br_c (fun k => t88 0 (tw_f0 (hV1 k))) (fun k => br_c (fun k2 => t88 0 (tw_f0 (hV2 k2))) (fun k2 => t88 1 (tw_f1 (hV k k2))))
theorem tw_r1 {v : Int32} : (¬ v < 0 → ¬ 1 ≤ v → v = 0) ∧ (v < 0 → ¬ v = 0) ∧ (1 ≤ v → ¬ v = 0) := by
  refine ⟨fun z z2 => ?_, fun z e => ?_, fun z e => ?_⟩
  · rcases pk_ix v (n := 1) (by omega) with k | k | ⟨j, hj, k⟩
    · exact absurd k z
    · exact absurd k z2
    · rw [k, show j = 0 by omega]; rfl
  · subst e; exact absurd z (by decide)
  · subst e; exact absurd z (by decide)
theorem tw_r2 {v : Int32} : (¬ v < 0 → ¬ 2 ≤ v → (v = 0 ∨ v = 1)) ∧ (v < 0 → ¬ (v = 0 ∨ v = 1)) ∧ (2 ≤ v → ¬ (v = 0 ∨ v = 1)) := by
  refine ⟨fun z z2 => ?_, fun z e => ?_, fun z e => ?_⟩
  · rcases pk_ix v (n := 2) (by omega) with k | k | ⟨j, hj, k⟩
    · exact absurd k z
    · exact absurd k z2
    · by_cases e : j = 0
      · exact Or.inl (by rw [k, e]; rfl)
      · exact Or.inr (by rw [k, show j = 1 by omega]; rfl)
  · rcases e with e | e <;> (subst e; exact absurd z (by decide))
  · rcases e with e | e <;> (subst e; exact absurd z (by decide))
end
end
section
theorem tw_v1 {x1 x2 x3 x4 w w' x10 f : Int32} (a1 : (x1 = 0 ∧ ¬ x2 < -1000 ∧ ¬ 1000 < x2) → w = x2) (a0 : ¬ (x1 = 0 ∧ ¬ x2 < -1000 ∧ ¬ 1000 < x2) → w = 0) (b1 : (x3 = 0 ∧ ¬ x4 < -100 ∧ ¬ 100 < x4) → w' = w + x4) (b0 : ¬ (x3 = 0 ∧ ¬ x4 < -100 ∧ ¬ 100 < x4) → w' = w) (c1 : x1 = 0 → x10 = w')
    (f0 : ¬ (x1 = 0 ∧ ¬ x2 < -1000 ∧ ¬ 1000 < x2) → f = 0) (f1 : (x1 = 0 ∧ ¬ x2 < -1000 ∧ ¬ 1000 < x2) → f = x2) (V : x1 = 0) :
    (((x3 = 0 ∧ ¬ x4 < -100 ∧ ¬ 100 < x4) ∧ (x1 = 0 ∨ x1 = x3)) → x10 = f + x4) ∧ (¬ ((x3 = 0 ∧ ¬ x4 < -100 ∧ ¬ 100 < x4) ∧ (x1 = 0 ∨ x1 = x3)) → x10 = f) := by
  have hf : f = w := by
    by_cases k : x1 = 0 ∧ ¬ x2 < -1000 ∧ ¬ 1000 < x2
    · rw [f1 k, a1 k]
    · rw [f0 k, a0 k]
  refine ⟨fun o => ?_, fun o => ?_⟩
  · rw [c1 V, b1 o.1, hf]
  · rw [c1 V, b0 (fun k => o ⟨k, Or.inl V⟩), hf]
theorem tw_v2 {x1 x2 x3 x4 y0 y1 z0 z1 x10 f : Int32} (a0 : (x1 = 0 ∧ ¬ x2 < -1000 ∧ ¬ 1000 < x2) → y0 = x2 ∧ y1 = 0) (a1 : (x1 = 1 ∧ ¬ x2 < -1000 ∧ ¬ 1000 < x2) → y0 = 0 ∧ y1 = x2) (an : ¬ ((x1 = 0 ∨ x1 = 1) ∧ ¬ x2 < -1000 ∧ ¬ 1000 < x2) → y0 = 0 ∧ y1 = 0)
    (b0 : (x3 = 0 ∧ ¬ x4 < -100 ∧ ¬ 100 < x4) → z0 = y0 + x4 ∧ z1 = y1) (b1 : (x3 = 1 ∧ ¬ x4 < -100 ∧ ¬ 100 < x4) → z0 = y0 + x4 ∧ z1 = y1 + x4) (bn : ¬ ((x3 = 0 ∨ x3 = 1) ∧ ¬ x4 < -100 ∧ ¬ 100 < x4) → z0 = y0 ∧ z1 = y1) (c0 : x1 = 0 → x10 = z0) (c1 : x1 = 1 → x10 = z1)
    (f0 : ¬ ((x1 = 0 ∨ x1 = 1) ∧ ¬ x2 < -1000 ∧ ¬ 1000 < x2) → f = 0) (f1 : ((x1 = 0 ∨ x1 = 1) ∧ ¬ x2 < -1000 ∧ ¬ 1000 < x2) → f = x2) (V : x1 = 0 ∨ x1 = 1) :
    ((((x3 = 0 ∨ x3 = 1) ∧ ¬ x4 < -100 ∧ ¬ 100 < x4) ∧ (x1 = 0 ∨ x1 = x3)) → x10 = f + x4) ∧ (¬ (((x3 = 0 ∨ x3 = 1) ∧ ¬ x4 < -100 ∧ ¬ 100 < x4) ∧ (x1 = 0 ∨ x1 = x3)) → x10 = f) := by
  rcases V with V | V
  · have hf : f = y0 := by
      by_cases k : ¬ x2 < -1000 ∧ ¬ 1000 < x2
      · rw [f1 ⟨Or.inl V, k⟩, (a0 ⟨V, k⟩).1]
      · rw [f0 (fun o => k o.2), (an (fun o => k o.2)).1]
    refine ⟨fun o => ?_, fun o => ?_⟩
    · rcases o.1.1 with e | e
      · rw [c0 V, (b0 ⟨e, o.1.2⟩).1, hf]
      · rw [c0 V, (b1 ⟨e, o.1.2⟩).1, hf]
    · rw [c0 V, (bn (fun k => o ⟨k, Or.inl V⟩)).1, hf]
  · have hf : f = y1 := by
      by_cases k : ¬ x2 < -1000 ∧ ¬ 1000 < x2
      · rw [f1 ⟨Or.inr V, k⟩, (a1 ⟨V, k⟩).2]
      · rw [f0 (fun o => k o.2), (an (fun o => k o.2)).2]
    refine ⟨fun o => ?_, fun o => ?_⟩
    · have e : x3 = 1 := o.2.elim (fun z => (tw_01 z V).elim) (fun z => z.symm.trans V)
      rw [c1 V, (b1 ⟨e, o.1.2⟩).2, hf]
    · by_cases k : (x3 = 0 ∨ x3 = 1) ∧ ¬ x4 < -100 ∧ ¬ 100 < x4
      · rcases k.1 with e | e
        · rw [c1 V, (b0 ⟨e, k.2⟩).2, hf]
        · exact absurd ⟨k, Or.inr (V.trans e.symm)⟩ o
      · rw [c1 V, (bn k).2, hf]
theorem tw_lawOf {post : Int32 → St0 → Prop} {mc ms : Nat} (hm : 26 ≤ mc) (hs : 1910 ≤ ms) (p0 p1 p2 p3 p4 : Int32) (hp : post 1 ()) : wpL_lawOf post mc ms () p0 p1 p2 p3 p4 := by
  unfold wpL_lawOf
  refine ⟨by omega, by omega, 25, 1881, by omega, by omega, ?_⟩
  unfold wpX_init
  refine ⟨by omega, by omega, by omega, by omega, by omega, by omega, by omega, by omega, by omega, by omega, by omega, by omega, by omega, by omega, by omega, by omega, by omega, by omega, by omega, by omega, by omega, by omega, by omega, by omega, by omega, by omega, by omega, by omega, by omega, by omega, by omega, by omega, by omega, by omega, by omega, by omega, by omega, by omega, by omega, by omega, by omega, by omega, by omega, by omega, by omega, by omega, by omega, by omega, by omega, by omega, nm_e ?_⟩
  refine tw_grow (w := 0) (Or.inl ⟨rfl, rfl, rfl⟩) (fun e u h => ?_) (fun e => ?_)
  · obtain ⟨c, l, rs, rm, a1, a2, a3, a4, a5, a6, a7, a8, a9, a10, a11, a12, a13, a14, a15, a16, a17, a18, a19, a20, a21, a22, a23, a24, a25⟩ := u
    refine tw_put2r (Or.inl h) (fun r7 y0 y1 u h ha0 ha1 han => ?_)
    obtain ⟨c, l, rs, rm, a1, a2, a3, a4, a5, a6, a7, a8, a9, a10, a11, a12, a13, a14, a15, a16, a17, a18, a19, a20, a21, a22, a23, a24, a25⟩ := u
    refine tw_way2r h (fun r8 z0 z1 u h b0 b1 bn => ?_)
    obtain ⟨c, l, rs, rm, a1, a2, a3, a4, a5, a6, a7, a8, a9, a10, a11, a12, a13, a14, a15, a16, a17, a18, a19, a20, a21, a22, a23, a24, a25⟩ := u
    refine tw_move2r h (fun r9 u h m2 m3 m0 => ?_)
    obtain ⟨c, l, rs, rm, a1, a2, a3, a4, a5, a6, a7, a8, a9, a10, a11, a12, a13, a14, a15, a16, a17, a18, a19, a20, a21, a22, a23, a24, a25⟩ := u
    refine tw_val2r h (fun r10 u h c0 c1 cn => ?_)
    obtain ⟨c, l, rs, rm, a1, a2, a3, a4, a5, a6, a7, a8, a9, a10, a11, a12, a13, a14, a15, a16, a17, a18, a19, a20, a21, a22, a23, a24, a25⟩ := u
    refine tw_par2r h (fun r11 d0 d1 dn => br_t e ?_)
    exact tw_tail (p1 = 0 ∨ p1 = 1) (p3 = 0 ∨ p3 = 1) tw_r2.1 tw_r2.2.1 tw_r2.2.2 tw_r2.1 tw_r2.2.1 tw_r2.2.2 hp (fun _ => rfl) (fun n => absurd e n)
      (fun o => o.1.elim (fun k => (ha0 ⟨k, o.2⟩).1) (fun k => (ha1 ⟨k, o.2⟩).1)) (fun o => (han o).1)
      (fun o => o.1.elim (fun k => (b0 ⟨k, o.2⟩).1.trans (by rw [k]; rfl)) (fun k => (b1 ⟨k, o.2⟩).1.trans (by rw [k]; rfl))) (fun o => (bn o).1)
      m0 m2 m3 cn (fun f f0 f1 V => tw_v2 (fun k => (ha0 k).2) (fun k => (ha1 k).2) (fun k => (han k).2) (fun k => (b0 k).2) (fun k => (b1 k).2) (fun k => (bn k).2) c0 c1 f0 f1 V)
      dn (fun _ k => d0 k) (fun o k => d1 (o.resolve_left k))
  · refine tw_put1r (w := 0) (Or.inl ⟨rfl, rfl, rfl⟩) (fun r7 w1 u h ha1 ha0 => ?_)
    obtain ⟨c, l, rs, rm, a1, a2, a3, a4, a5, a6, a7, a8, a9, a10, a11, a12, a13, a14, a15, a16, a17, a18, a19, a20, a21, a22, a23, a24, a25⟩ := u
    refine tw_way1r h (fun r8 w2 u h b1 b0 => ?_)
    obtain ⟨c, l, rs, rm, a1, a2, a3, a4, a5, a6, a7, a8, a9, a10, a11, a12, a13, a14, a15, a16, a17, a18, a19, a20, a21, a22, a23, a24, a25⟩ := u
    refine tw_move1r h (fun r9 u h m1 m0 => ?_)
    obtain ⟨c, l, rs, rm, a1, a2, a3, a4, a5, a6, a7, a8, a9, a10, a11, a12, a13, a14, a15, a16, a17, a18, a19, a20, a21, a22, a23, a24, a25⟩ := u
    refine tw_val1r h (fun r10 u h c1 c0 => ?_)
    obtain ⟨c, l, rs, rm, a1, a2, a3, a4, a5, a6, a7, a8, a9, a10, a11, a12, a13, a14, a15, a16, a17, a18, a19, a20, a21, a22, a23, a24, a25⟩ := u
    refine tw_par1r h (fun r11 d1 d0 => br_f e ?_)
    exact tw_tail (p1 = 0) (p3 = 0) tw_r1.1 tw_r1.2.1 tw_r1.2.2 tw_r1.1 tw_r1.2.1 tw_r1.2.2 hp (fun k => absurd k e) (fun _ => rfl)
      (fun o => (ha1 o).1) (fun o => (ha0 o).1) (fun o => (b1 o).1.trans (by rw [o.1]; rfl)) (fun o => (b0 o).1)
      m0 (fun k k2 _ => m1 ⟨k, k2⟩) (fun k _ o => absurd (Or.inl k) o) c0
      (fun f f0 f1 V => tw_v1 (fun k => (ha1 k).2) (fun k => (ha0 k).2) (fun k => (b1 k).2) (fun k => (b0 k).2) c1 f0 f1 V)
      d0 (fun _ k => d1 k) (fun k o => absurd k o)
theorem tw_cell {post : Int32 → Prop} {L : Nat} {xs : Nat → Int32} (hL : L ≤ 5) (i : Nat) (hi : i < 5) (H : ∀ x, post x) : wpL_cellAt post L xs () (nI i) :=
  pk_le L i (fun _ => H _) (fun z => ⟨pk_in i L z, H _⟩)
theorem i_vc (xs : Nat → Int32) (L : Nat) (hL : L ≤ 5) : wpL_law (fun r => r = 1) L xs := by
  unfold wpL_law
  exact tw_cell hL 0 (by omega) (fun r1 => tw_cell hL 1 (by omega) (fun r2 => tw_cell hL 2 (by omega) (fun r3 => tw_cell hL 3 (by omega) (fun r4 => tw_cell hL 4 (by omega) (fun r5 => ⟨998, 15968, by omega, by omega, tw_lawOf (by omega) (by omega) r1 r2 r3 r4 r5 rfl⟩)))))
end
