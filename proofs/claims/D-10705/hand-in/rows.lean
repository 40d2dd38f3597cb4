section
/-- g says whether x is a vertex -/
def dc_g (N : Nat) (x g : Int32) : Prop := (g = 0 ∧ (x < 0 ∨ nI N ≤ x)) ∨ (g = 1 ∧ ∃ j : Nat, j < N ∧ x = nI j)
theorem dc_g1 {N : Nat} {x : Int32} (hN : N ≤ 24) (h0 : ¬ x < 0) (h1 : ¬ nI N ≤ x) : dc_g N x 1 := by
  rcases pk_ix x (show N < 2 ^ 31 by omega) with h | h | h
  · exact absurd h h0
  · exact absurd h h1
  · exact Or.inr ⟨rfl, h⟩
theorem dc_fill {s f : Nat → Int32} {i k : Nat} {x : Int32} (hk : k = i) (h : ∀ j, j < i → s j = f j) (hx : x = f i) : ∀ j, j < i + 1 → upd s k x j = f j := by
  intro j hj
  rw [hk]
  by_cases e : j = i
  · rw [e, pk_us, hx]
  · rw [pk_un e]
    exact h j (by omega)
theorem dc_cl {i : Nat} (h : i < 60) : (nI i).toNatClampNeg = i := nI_clamp (by omega)
theorem dc_ne {i : Nat} (h : i < 60) : ¬ nI i = -1 := by
  intro e
  have h1 : ¬ nI i < 0 := nI_pos (by omega)
  rw [e] at h1
  exact h1 (by decide)
section
variable {N : Nat} {ec re cu qu fa : Int32} {a1 a2 a3 a4 a5 a6 a7 a8 a9 a10 a11 a12 a13 a14 a15 a16 a17 a18 a19 a20 a21 a22 a23 a24 : Nat → Int32}
/-! chain -/
theorem dc_chain2 {post : St2 → Prop} (hN : N ≤ 24)
    (H : ∀ b3 b5 : Nat → Int32, (∀ j, j < N → b3 j = -1) → (∀ j, j < N → b5 j = -1) → ∀ x, x = ec - 1 → ∃ n, wX_chain_37 post (nI N) ec re cu qu fa n x a1 a2 b3 a4 b5 a6 a7 a8 a9 a10 a11 a12 a13 a14 a15 a16 a17 a18 a19 a20 a21 a22 a23 a24) :
    wpX_chain post ((nI N), ec, re, cu, qu, fa, a1, a2, a3, a4, a5, a6, a7, a8, a9, a10, a11, a12, a13, a14, a15, a16, a17, a18, a19, a20, a21, a22, a23, a24) :=
  pk_loop (fun n i (s : (Nat → Int32) × (Nat → Int32)) => wX_chain_2 post (nI N) ec re cu qu fa n (nI i) a1 a2 s.1 a4 s.2 a6 a7 a8 a9 a10 a11 a12 a13 a14 a15 a16 a17 a18 a19 a20 a21 a22 a23 a24) (fun i s => (∀ j, j < i → s.1 j = -1) ∧ (∀ j, j < i → s.2 j = -1)) N 0 (a3, a5) (by omega) ⟨lt_0, lt_0⟩
    (fun n s h => pk_le N N (fun _ => H s.1 s.2 h.1 h.2) (fun z => absurd z (by omega)))
    (fun n i s hi h hw => pk_le N i (fun z => absurd z (by omega)) (fun _ => ⟨pk_in i 24 (by omega), nm_e ⟨pk_in i 24 (by omega), nm_e (nm_r (nI_1 i) (hw (_, _) ⟨dc_fill (f := fun _ => -1) (dc_cl (by omega)) h.1 rfl, dc_fill (f := fun _ => -1) (dc_cl (by omega)) h.2 rfl⟩))⟩⟩))
theorem dc_chain_0 {post : St2 → Prop} (hN : N ≤ 24)
    (H : ∀ b3 b5 : Nat → Int32, (∀ j, j < N → b3 j = -1) → (∀ j, j < N → b5 j = -1) → post ((nI N), 0, re, cu, qu, fa, a1, a2, b3, a4, b5, a6, a7, a8, a9, a10, a11, a12, a13, a14, a15, a16, a17, a18, a19, a20, a21, a22, a23, a24)) :
    wpX_chain post ((nI N), 0, re, cu, qu, fa, a1, a2, a3, a4, a5, a6, a7, a8, a9, a10, a11, a12, a13, a14, a15, a16, a17, a18, a19, a20, a21, a22, a23, a24) :=
  dc_chain2 hN (fun b3 b5 h3 h5 x hx => ⟨0 + 1, br_t (by rw [hx]; decide) (H b3 b5 h3 h5)⟩)
theorem dc_chain_1 {post : St2 → Prop} (hN : N ≤ 24) {U V : Nat} (hU : U < N) (hV : V < N) (e1 : a1 0 = nI U) (e2 : a2 0 = nI V)
    (H : ∀ b3 b4 b5 b6 : Nat → Int32, b3 U = 0 → (∀ j, j < N → j ≠ U → b3 j = -1) → b4 0 = -1 → b5 V = 0 → (∀ j, j < N → j ≠ V → b5 j = -1) → b6 0 = -1 → post ((nI N), 1, re, cu, qu, fa, a1, a2, b3, b4, b5, b6, a7, a8, a9, a10, a11, a12, a13, a14, a15, a16, a17, a18, a19, a20, a21, a22, a23, a24)) :
    wpX_chain post ((nI N), 1, re, cu, qu, fa, a1, a2, a3, a4, a5, a6, a7, a8, a9, a10, a11, a12, a13, a14, a15, a16, a17, a18, a19, a20, a21, a22, a23, a24) := by
  refine dc_chain2 hN (fun b3 b5 h3 h5 x hx => ?_)
  have hx0 : x = 0 := by rw [hx]; decide
  subst hx0
  have c1 : a1 (0 : Int32).toNatClampNeg = nI U := by rw [sb_cl0, e1]
  have c2 : a2 (0 : Int32).toNatClampNeg = nI V := by rw [sb_cl0, e2]
  have i1 : vp_in (a1 (0 : Int32).toNatClampNeg) 24 := pk_in U 24 (by omega) c1
  have i2 : vp_in (a2 (0 : Int32).toNatClampNeg) 24 := pk_in V 24 (by omega) c2
  have z : vp_in (0 : Int32) 60 := pk_in 0 60 (by omega)
  have k1 : (a1 (0 : Int32).toNatClampNeg).toNatClampNeg = U := by rw [c1]; exact dc_cl (by omega)
  have k2 : (a2 (0 : Int32).toNatClampNeg).toNatClampNeg = V := by rw [c2]; exact dc_cl (by omega)
  exact ⟨0 + 1 + 1, br_f (by decide) ⟨z, i1, z, nm_r (e' := upd a4 0 (-1)) (by rw [k1, h3 U hU, sb_cl0]) ⟨z, i1, nm_r (e' := upd b3 U 0) (by rw [k1]) ⟨z, i2, z, nm_r (e' := upd a6 0 (-1)) (by rw [k2, h5 V hV, sb_cl0]) ⟨z, i2, nm_r (e' := upd b5 V 0) (by rw [k2]) (nm_r (e' := -1) (by decide) (br_t (by decide) (H _ _ _ _ pk_us (fun j hj hne => by rw [pk_un hne]; exact h3 j hj) pk_us pk_us (fun j hj hne => by rw [pk_un hne]; exact h5 j hj) pk_us)))⟩⟩⟩⟩⟩
/-! numberVertices -/
theorem dc_nv2 {post : St2 → Prop} (hN : N ≤ 24)
    (H : ∀ b7 b9 : Nat → Int32, (∀ j, j < N → b7 j = a3 j) → (∀ j, j < N → b9 j = -1) → ∃ n, wX_numberVertices_57 post n 0 0 (nI N) ec 1 cu qu fa a1 a2 a3 a4 a5 a6 b7 (upd a8 0 0) (upd b9 0 0) (upd a10 0 0) (upd a11 0 (-1)) a12 a13 a14 a15 a16 a17 a18 a19 a20 a21 a22 a23 a24) :
    wpX_numberVertices post ((nI N), ec, re, cu, qu, fa, a1, a2, a3, a4, a5, a6, a7, a8, a9, a10, a11, a12, a13, a14, a15, a16, a17, a18, a19, a20, a21, a22, a23, a24) :=
  pk_loop (fun n i (s : (Nat → Int32) × (Nat → Int32)) => wX_numberVertices_2 post (nI N) ec re cu qu fa n (nI i) a1 a2 a3 a4 a5 a6 s.1 a8 s.2 a10 a11 a12 a13 a14 a15 a16 a17 a18 a19 a20 a21 a22 a23 a24) (fun i s => (∀ j, j < i → s.1 j = a3 j) ∧ (∀ j, j < i → s.2 j = -1)) N 0 (a7, a9) (by omega) ⟨lt_0, lt_0⟩
    (fun n s h => pk_le N N (fun _ => And.intro (pk_in 0 24 (by omega)) (nm_r (e' := upd s.2 0 0) (by rw [sb_cl0]) ⟨pk_in 0 24 (by omega), nm_r (e' := upd a10 0 0) (by rw [sb_cl0]) ⟨pk_in 0 24 (by omega), nm_r (e' := upd a11 0 (-1)) (by rw [sb_cl0]) (nm_r (e' := 1) (by decide) (nm_e (H s.1 s.2 h.1 h.2)))⟩⟩)) (fun z => absurd z (by omega)))
    (fun n i s hi h hw => pk_le N i (fun z => absurd z (by omega)) (fun _ => ⟨pk_in i 24 (by omega), nm_e ⟨pk_in i 24 (by omega), pk_in i 24 (by omega), nm_e (nm_r (nI_1 i) (hw (_, _) ⟨dc_fill (dc_cl (by omega)) h.1 (by rw [dc_cl (by omega)]), dc_fill (f := fun _ => -1) (dc_cl (by omega)) h.2 rfl⟩))⟩⟩))
theorem dc_nv_end {post : St2 → Prop} {n : Nat} {x2 : Int32} (h : post ((nI N), ec, re, cu, qu, fa, a1, a2, a3, a4, a5, a6, a7, a8, a9, a10, a11, a12, a13, a14, a15, a16, a17, a18, a19, a20, a21, a22, a23, a24)) : wX_numberVertices_57 post (n + 1) (-1) x2 (nI N) ec re cu qu fa a1 a2 a3 a4 a5 a6 a7 a8 a9 a10 a11 a12 a13 a14 a15 a16 a17 a18 a19 a20 a21 a22 a23 a24 :=
  br_c (fun _ => h) (fun _ => br_t (by decide) h)
theorem dc_nv_pop {post : St2 → Prop} {n d k v : Nat} (hd : d < 25) (hk : k < 120) (hv : v < 24) (e8 : a8 d = nI v) (e7 : a7 v = -1) {x : Int32} (hx : nI d + (-1) = x)
    (h : wX_numberVertices_57 post n x (nI (k + 1)) (nI N) ec re cu qu fa a1 a2 a3 a4 a5 a6 a7 a8 a9 a10 a11 a12 a13 a14 a15 a16 a17 a18 a19 a20 a21 a22 a23 a24) : wX_numberVertices_57 post (n + 1) (nI d) (nI k) (nI N) ec re cu qu fa a1 a2 a3 a4 a5 a6 a7 a8 a9 a10 a11 a12 a13 a14 a15 a16 a17 a18 a19 a20 a21 a22 a23 a24 :=
  pk_le 120 k (fun z => absurd z (by omega)) (fun _ => br_f (nI_pos (by omega)) ⟨pk_in d 25 hd, nm_r (e' := nI v) (by rw [dc_cl (by omega), e8]) ⟨pk_in v 24 hv, nm_r (e' := -1) (by rw [dc_cl (by omega), e7]) (br_t rfl (nm_r hx (nm_r (nI_1 k) h)))⟩⟩)
theorem dc_nv_old {post : St2 → Prop} {n d k v e w : Nat} (hd : d < 25) (hk : k < 120) (hv : v < 24) (he : e < 60) (hw : w < 24) (e8 : a8 d = nI v) (e7 : a7 v = nI e) (e2 : a2 e = nI w) (e9 : 0 ≤ a9 w)
    (h : wX_numberVertices_57 post n (nI d) (nI (k + 1)) (nI N) ec re cu qu fa a1 a2 a3 a4 a5 a6 (upd a7 v (a4 e)) a8 a9 a10 a11 a12 a13 a14 a15 a16 a17 a18 a19 a20 a21 a22 a23 a24) : wX_numberVertices_57 post (n + 1) (nI d) (nI k) (nI N) ec re cu qu fa a1 a2 a3 a4 a5 a6 a7 a8 a9 a10 a11 a12 a13 a14 a15 a16 a17 a18 a19 a20 a21 a22 a23 a24 :=
  pk_le 120 k (fun z => absurd z (by omega)) (fun _ => br_f (nI_pos (by omega)) ⟨pk_in d 25 hd, nm_r (e' := nI v) (by rw [dc_cl (by omega), e8]) ⟨pk_in v 24 hv, nm_r (e' := nI e) (by rw [dc_cl (by omega), e7]) (br_f (dc_ne he) ⟨pk_in e 60 he, pk_in v 24 hv, nm_r (e' := upd a7 v (a4 e)) (by rw [dc_cl (i := v) (by omega), dc_cl he]) ⟨pk_in e 60 he, nm_r (e' := nI w) (by rw [dc_cl he, e2]) ⟨pk_in w 24 hw, br_t (by rw [dc_cl (by omega)]; exact e9) (nm_r (nI_1 k) h)⟩⟩⟩)⟩⟩)
theorem dc_nv_new {post : St2 → Prop} {n d k v e w r : Nat} (hd : d < 24) (hk : k < 120) (hv : v < 24) (he : e < 60) (hw : w < 24) (hr : r < 24) (e8 : a8 d = nI v) (e7 : a7 v = nI e) (e2 : a2 e = nI w) (e9 : ¬ 0 ≤ a9 w)
    (h : wX_numberVertices_57 post n (nI (d + 1)) (nI (k + 1)) (nI N) ec (nI (r + 1)) cu qu fa a1 a2 a3 a4 a5 a6 (upd a7 v (a4 e)) (upd a8 (d + 1) (nI w)) (upd a9 w (nI r)) (upd a10 r (nI w)) (upd a11 w (nI v)) a12 a13 a14 a15 a16 a17 a18 a19 a20 a21 a22 a23 a24) : wX_numberVertices_57 post (n + 1) (nI d) (nI k) (nI N) ec (nI r) cu qu fa a1 a2 a3 a4 a5 a6 a7 a8 a9 a10 a11 a12 a13 a14 a15 a16 a17 a18 a19 a20 a21 a22 a23 a24 :=
  pk_le 120 k (fun z => absurd z (by omega)) (fun _ => br_f (nI_pos (by omega)) ⟨pk_in d 25 (by omega), nm_r (e' := nI v) (by rw [dc_cl (by omega), e8]) ⟨pk_in v 24 hv, nm_r (e' := nI e) (by rw [dc_cl (by omega), e7]) (br_f (dc_ne he) ⟨pk_in e 60 he, pk_in v 24 hv, nm_r (e' := upd a7 v (a4 e)) (by rw [dc_cl (i := v) (by omega), dc_cl he]) ⟨pk_in e 60 he, nm_r (e' := nI w) (by rw [dc_cl he, e2]) ⟨pk_in w 24 hw, br_f (by rw [dc_cl (by omega)]; exact e9)
    (And.intro (pk_in w 24 hw) (nm_r (e' := upd a9 w (nI r)) (by rw [dc_cl (by omega)]) ⟨pk_in r 24 hr, nm_r (e' := upd a10 r (nI w)) (by rw [dc_cl (by omega)]) ⟨pk_in w 24 hw, nm_r (e' := upd a11 w (nI v)) (by rw [dc_cl (by omega)]) (nm_r (nI_1 r) (nm_r (nI_1 d) ⟨pk_in (d + 1) 25 (by omega), nm_r (e' := upd a8 (d + 1) (nI w)) (by rw [dc_cl (by omega)]) (nm_r (nI_1 k) h)⟩))⟩⟩))⟩⟩⟩)⟩⟩)
theorem dc_nv_0 {post : St2 → Prop} (h2 : 2 ≤ N) (hN : N ≤ 24) (hc : a3 0 = -1 ∨ (a3 0 = 0 ∧ a4 0 = -1 ∧ a2 0 = 0))
    (H : ∀ b7 b8 b9 b10 b11 : Nat → Int32, b9 0 = 0 → (∀ j, j < N → j ≠ 0 → b9 j = -1) → post ((nI N), ec, 1, cu, qu, fa, a1, a2, a3, a4, a5, a6, b7, b8, b9, b10, b11, a12, a13, a14, a15, a16, a17, a18, a19, a20, a21, a22, a23, a24)) :
    wpX_numberVertices post ((nI N), ec, re, cu, qu, fa, a1, a2, a3, a4, a5, a6, a7, a8, a9, a10, a11, a12, a13, a14, a15, a16, a17, a18, a19, a20, a21, a22, a23, a24) := by
  refine dc_nv2 hN (fun b7 b9 h7 h9 => ?_)
  have H' : ∀ b7', post ((nI N), ec, 1, cu, qu, fa, a1, a2, a3, a4, a5, a6, b7', upd a8 0 0, upd b9 0 0, upd a10 0 0, upd a11 0 (-1), a12, a13, a14, a15, a16, a17, a18, a19, a20, a21, a22, a23, a24) := fun b7' => H b7' _ _ _ _ pk_us (fun j hj h0 => by rw [pk_un h0]; exact h9 j hj)
  rcases hc with e | ⟨e3, e4, e2⟩
  · exact ⟨0 + 1 + 1, dc_nv_pop (d := 0) (k := 0) (v := 0) (by omega) (by omega) (by omega) pk_us (by rw [h7 0 (by omega), e]) (x := -1) (by decide) (dc_nv_end (H' _))⟩
  · exact ⟨0 + 1 + 1 + 1, dc_nv_old (d := 0) (k := 0) (v := 0) (e := 0) (w := 0) (by omega) (by omega) (by omega) (by omega) (by omega) pk_us (by rw [h7 0 (by omega), e3]; rfl) (by rw [e2]; rfl) (by rw [pk_us]; decide)
      (dc_nv_pop (d := 0) (k := 1) (v := 0) (by omega) (by omega) (by omega) pk_us (by rw [pk_us, e4]) (x := -1) (by decide) (dc_nv_end (H' _)))⟩
theorem dc_nv_1 {post : St2 → Prop} (h2 : 2 ≤ N) (hN : N ≤ 24) {V : Nat} (hV : V < N) (hV0 : V ≠ 0) (e3 : a3 0 = 0) (e3' : a3 V = -1) (e4 : a4 0 = -1) (e2 : a2 0 = nI V)
    (H : ∀ b7 b8 b9 b10 b11 : Nat → Int32, b9 0 = 0 → b9 V = 1 → (∀ j, j < N → j ≠ 0 → j ≠ V → b9 j = -1) → b10 0 = 0 → b10 1 = nI V → b11 V = 0 → post ((nI N), ec, 2, cu, qu, fa, a1, a2, a3, a4, a5, a6, b7, b8, b9, b10, b11, a12, a13, a14, a15, a16, a17, a18, a19, a20, a21, a22, a23, a24)) :
    wpX_numberVertices post ((nI N), ec, re, cu, qu, fa, a1, a2, a3, a4, a5, a6, a7, a8, a9, a10, a11, a12, a13, a14, a15, a16, a17, a18, a19, a20, a21, a22, a23, a24) := by
  refine dc_nv2 hN (fun b7 b9 h7 h9 => ?_)
  have v9 : ¬ 0 ≤ upd b9 0 0 V := by rw [pk_un hV0, h9 V hV]; decide
  have p1 : upd b7 0 (a4 0) V = -1 := by rw [pk_un hV0, h7 V hV, e3']
  have p2 : upd (upd a8 0 0) (0 + 1) (nI V) 0 = nI 0 := by rw [pk_un (by omega), pk_us]; rfl
  have p3 : upd b7 0 (a4 0) 0 = -1 := by rw [pk_us, e4]
  exact ⟨0 + 1 + 1 + 1 + 1, dc_nv_new (d := 0) (k := 0) (v := 0) (e := 0) (w := V) (r := 1) (by omega) (by omega) (by omega) (by omega) (by omega) (by omega) pk_us (by rw [h7 0 (by omega), e3]; rfl) e2 v9
      (dc_nv_pop (d := 0 + 1) (k := 0 + 1) (v := V) (by omega) (by omega) (by omega) pk_us p1 (x := nI 0) (by decide)
        (dc_nv_pop (d := 0) (k := 0 + 1 + 1) (v := 0) (by omega) (by omega) (by omega) p2 p3 (x := -1) (by decide)
          (dc_nv_end (H _ _ _ _ _ (by rw [pk_un (by omega), pk_us]) (by rw [pk_us]; rfl) (fun j hj h0 h1 => by rw [pk_un h1, pk_un h0]; exact h9 j hj) (by rw [pk_un (by omega), pk_us]) pk_us (by rw [pk_us]; rfl)))))⟩
end
end
section
theorem dc_cl1 : (1 : Int32).toNatClampNeg = 1 := by decide
theorem dc_11 : (1 : Int32) + 1 = 2 := by decide
theorem dc_01 : (0 : Int32) + 1 = 1 := by decide
section
variable {N : Nat} {ec re cu qu fa : Int32} {a1 a2 a3 a4 a5 a6 a7 a8 a9 a10 a11 a12 a13 a14 a15 a16 a17 a18 a19 a20 a21 a22 a23 a24 : Nat → Int32}
/-! findSemi -/
theorem dc_fs2 {post : St2 → Prop} (hN : N ≤ 24)
    (H : ∀ b12 b13 b14 b15 b17 : Nat → Int32, (∀ j, j < N → b12 j = a9 j) → (∀ j, j < N → b13 j = nI j) → (∀ j, j < N → b14 j = -1) → (∀ j, j < N → b15 j = -1) → ∀ x, x = re - 1 → ∃ n, wX_findSemi_63 post n x (nI N) ec re cu qu fa a1 a2 a3 a4 a5 a6 a7 a8 a9 a10 a11 b12 b13 b14 b15 a16 b17 a18 a19 a20 a21 a22 a23 a24) :
    wpX_findSemi post ((nI N), ec, re, cu, qu, fa, a1, a2, a3, a4, a5, a6, a7, a8, a9, a10, a11, a12, a13, a14, a15, a16, a17, a18, a19, a20, a21, a22, a23, a24) :=
  pk_loop (fun n i (s : (Nat → Int32) × (Nat → Int32) × (Nat → Int32) × (Nat → Int32) × (Nat → Int32)) => wX_findSemi_2 post (nI N) ec re cu qu fa n (nI i) a1 a2 a3 a4 a5 a6 a7 a8 a9 a10 a11 s.1 s.2.1 s.2.2.1 s.2.2.2.1 a16 s.2.2.2.2 a18 a19 a20 a21 a22 a23 a24) (fun i s => (∀ j, j < i → s.1 j = a9 j) ∧ (∀ j, j < i → s.2.1 j = nI j) ∧ (∀ j, j < i → s.2.2.1 j = -1) ∧ (∀ j, j < i → s.2.2.2.1 j = -1)) N 0 (a12, a13, a14, a15, a17) (by omega) ⟨lt_0, lt_0, lt_0, lt_0⟩
    (fun n s h => pk_le N N (fun _ => H s.1 s.2.1 s.2.2.1 s.2.2.2.1 s.2.2.2.2 h.1 h.2.1 h.2.2.1 h.2.2.2) (fun z => absurd z (by omega)))
    (fun n i s hi h hw => pk_le N i (fun z => absurd z (by omega)) (fun _ => ⟨pk_in i 24 (by omega), pk_in i 24 (by omega), nm_e ⟨pk_in i 24 (by omega), nm_e ⟨pk_in i 24 (by omega), nm_e ⟨pk_in i 24 (by omega), nm_e ⟨pk_in i 24 (by omega), nm_e (nm_r (nI_1 i) (hw (_, _, _, _, _) ⟨dc_fill (dc_cl (by omega)) h.1 (by rw [dc_cl (by omega)]), dc_fill (f := nI) (dc_cl (by omega)) h.2.1 rfl, dc_fill (f := fun _ => -1) (dc_cl (by omega)) h.2.2.1 rfl, dc_fill (f := fun _ => -1) (dc_cl (by omega)) h.2.2.2 rfl⟩))⟩⟩⟩⟩⟩))
theorem dc_fs_0 {post : St2 → Prop} (hN : N ≤ 24)
    (H : ∀ b12 b13 b14 b15 b17 : Nat → Int32, post ((nI N), ec, 1, cu, qu, fa, a1, a2, a3, a4, a5, a6, a7, a8, a9, a10, a11, b12, b13, b14, b15, a16, b17, a18, a19, a20, a21, a22, a23, a24)) :
    wpX_findSemi post ((nI N), ec, 1, cu, qu, fa, a1, a2, a3, a4, a5, a6, a7, a8, a9, a10, a11, a12, a13, a14, a15, a16, a17, a18, a19, a20, a21, a22, a23, a24) :=
  dc_fs2 hN (fun b12 b13 b14 b15 b17 h12 h13 h14 h15 x hx => ⟨0 + 1, br_t (by rw [hx]; decide) (H b12 b13 b14 b15 b17)⟩)
theorem dc_low0 {post : Int32 → St2 → Prop} {W : Nat} (hW : W < 24) (e : a14 W = -1) (h : post (nI W) ((nI N), ec, re, cu, qu, fa, a1, a2, a3, a4, a5, a6, a7, a8, a9, a10, a11, a12, a13, a14, a15, a16, a17, a18, a19, a20, a21, a22, a23, a24)) : wpX_lowest post ((nI N), ec, re, cu, qu, fa, a1, a2, a3, a4, a5, a6, a7, a8, a9, a10, a11, a12, a13, a14, a15, a16, a17, a18, a19, a20, a21, a22, a23, a24) (nI W) :=
  And.intro (pk_in W 24 hW) (br_t (by rw [dc_cl (by omega), e]) h)
theorem dc_low1 {post : Int32 → St2 → Prop} (h2 : 2 ≤ N) (hN : N ≤ 24) {W P M : Nat} (hW : W < 24) (hP : P < 24) (eW : a14 W = nI P) (eP : a14 P = -1) (eM : a13 W = nI M) (h : post (nI M) ((nI N), ec, re, cu, qu, fa, a1, a2, a3, a4, a5, a6, a7, a8, a9, a10, a11, a12, a13, a14, a15, a16, a17, a18, a19, a20, a21, a22, a23, a24)) : wpX_lowest post ((nI N), ec, re, cu, qu, fa, a1, a2, a3, a4, a5, a6, a7, a8, a9, a10, a11, a12, a13, a14, a15, a16, a17, a18, a19, a20, a21, a22, a23, a24) (nI W) :=
  And.intro (pk_in W 24 hW) (br_f (by rw [dc_cl (by omega), eW]; exact dc_ne (by omega)) ⟨0 + 1, pk_le N 0 (fun z => absurd z (by omega)) (fun _ => ⟨pk_in W 24 hW, pk_in P 24 hP (by rw [dc_cl (by omega), eW]), br_t (by rw [dc_cl (i := W) (by omega), eW, dc_cl (by omega), eP]) (nm_r (e' := -1) (by decide) ⟨0 + 1, br_t (by decide) ⟨pk_in W 24 hW, by rw [dc_cl (by omega), eM]; exact h⟩⟩)⟩)⟩)
theorem dc_lbs {post : St2 → Prop} {V : Nat} (hV : V < 24) (e5 : a5 V = 0) (e1 : a1 0 = 0) (e9 : a9 0 = 0) (e14 : a14 0 = -1) (e12 : a12 0 = 0) (e12' : a12 V = 1) (e6 : a6 0 = -1)
    (h : post ((nI N), ec, re, cu, qu, fa, a1, a2, a3, a4, a5, a6, a7, a8, a9, a10, a11, upd a12 V 0, a13, a14, a15, a16, a17, a18, a19, a20, a21, a22, a23, a24)) : wpX_lowerBySources post ((nI N), ec, re, cu, qu, fa, a1, a2, a3, a4, a5, a6, a7, a8, a9, a10, a11, a12, a13, a14, a15, a16, a17, a18, a19, a20, a21, a22, a23, a24) (nI V) :=
  And.intro (pk_in V 24 hV) (nm_r (e' := 0) (by rw [dc_cl (by omega), e5]) ⟨0 + 1 + 1, pk_le 60 0 (fun z => absurd z (by omega)) (fun _ => br_f (by decide) ⟨pk_in 0 60 (by omega), nm_r (e' := nI 0) (by rw [sb_cl0, e1]; rfl) ⟨pk_in 0 24 (by omega), br_f (by rw [dc_cl (by omega), e9]; decide)
    (dc_low0 (W := 0) (by omega) e14 (And.intro (pk_in 0 24 (by omega)) ⟨pk_in V 24 hV, br_f (by rw [dc_cl (i := V) (by omega), dc_cl (i := 0) (by omega), e12, e12']; decide) ⟨pk_in 0 24 (by omega), pk_in V 24 hV, nm_r (e' := upd a12 V 0) (by rw [dc_cl (i := V) (by omega), dc_cl (i := 0) (by omega), e12]) ⟨pk_in 0 60 (by omega), nm_r (e' := -1) (by rw [sb_cl0, e6]) (nm_r (e' := nI 1) (by decide) (pk_le 60 1 (fun z => absurd z (by omega)) (fun _ => br_t rfl h)))⟩⟩⟩))⟩⟩)⟩)
theorem dc_eb {post : St2 → Prop} (h2 : 2 ≤ N) (hN : N ≤ 24) {V : Nat} (hV : V < N) {p : Int32} (hp : p = 0) (e15 : a15 0 = nI V) (e14 : a14 V = 0) (e14' : a14 0 = -1) (e13 : a13 V = nI V) (e16 : a16 V = -1) (e12 : a12 V = 0)
    (h : post ((nI N), ec, re, cu, qu, fa, a1, a2, a3, a4, a5, a6, a7, a8, a9, a10, a11, a12, a13, a14, upd a15 0 (-1), a16, upd a17 V 0, a18, a19, a20, a21, a22, a23, a24)) : wpX_emptyBucket post ((nI N), ec, re, cu, qu, fa, a1, a2, a3, a4, a5, a6, a7, a8, a9, a10, a11, a12, a13, a14, a15, a16, a17, a18, a19, a20, a21, a22, a23, a24) p := by
  subst hp
  exact And.intro (pk_in 0 24 (by omega)) (nm_r (e' := nI V) (by rw [sb_cl0, e15]) ⟨0 + 1 + 1, pk_le N 0 (fun z => absurd z (by omega)) (fun _ => br_f (dc_ne (by omega))
    (dc_low1 (W := V) (P := 0) (M := V) h2 hN (by omega) (by omega) e14 e14' e13 (And.intro (pk_in V 24 (by omega)) ⟨pk_in V 24 (by omega), br_t (by rw [dc_cl (by omega), e12]; decide)
      (And.intro (pk_in V 24 (by omega)) (nm_r (e' := upd a17 V 0) (by rw [dc_cl (by omega)]) ⟨pk_in V 24 (by omega), nm_r (e' := -1) (by rw [dc_cl (by omega), e16]) (nm_r (e' := nI 1) (by decide) (pk_le N 1 (fun z => absurd z (by omega)) (fun _ => br_t rfl ⟨pk_in 0 24 (by omega), nm_r (e' := upd a15 0 (-1)) (by rw [sb_cl0]) h⟩)))⟩))⟩)))⟩)
theorem dc_fs_1 {post : St2 → Prop} (h2 : 2 ≤ N) (hN : N ≤ 24) {V : Nat} (hV : V < N) (hV0 : V ≠ 0) (e9 : a9 0 = 0) (e9' : a9 V = 1) (e10 : a10 0 = 0) (e10' : a10 1 = nI V) (e11 : a11 V = 0) (e5 : a5 V = 0) (e6 : a6 0 = -1) (e1 : a1 0 = 0)
    (H : ∀ b12 b13 b14 b15 b16 b17 : Nat → Int32, b12 V = 0 → b17 V = 0 → post ((nI N), ec, 2, cu, qu, fa, a1, a2, a3, a4, a5, a6, a7, a8, a9, a10, a11, b12, b13, b14, b15, b16, b17, a18, a19, a20, a21, a22, a23, a24)) :
    wpX_findSemi post ((nI N), ec, 2, cu, qu, fa, a1, a2, a3, a4, a5, a6, a7, a8, a9, a10, a11, a12, a13, a14, a15, a16, a17, a18, a19, a20, a21, a22, a23, a24) := by
  refine dc_fs2 hN (fun b12 b13 b14 b15 b17 h12 h13 h14 h15 x hx => ?_)
  have hx1 : x = nI 1 := by rw [hx]; decide
  subst hx1
  have q14 : upd b14 V 0 0 = -1 := by rw [pk_un (by omega)]; exact h14 0 (by omega)
  have q12 : b12 0 = 0 := by rw [h12 0 (by omega), e9]
  have q12' : b12 V = 1 := by rw [h12 V hV, e9']
  have q15 : b15 0 = -1 := h15 0 (by omega)
  have q13 : b13 V = nI V := h13 V hV
  exact ⟨0 + 1 + 1, pk_le 1 0 (fun z => absurd z (by omega)) (fun _ => ⟨pk_in 1 24 (by omega), nm_r (e' := nI V) (by rw [dc_cl (by omega), e10']) (dc_lbs (V := V) (by omega) e5 e1 e9 (h14 0 (by omega)) q12 q12' e6
    (And.intro (pk_in V 24 (by omega)) ⟨pk_in 0 24 (by omega) (by rw [dc_cl (by omega), pk_us]; rfl), nm_r (e' := nI 0) (by rw [dc_cl (i := V) (by omega), pk_us, sb_cl0, e10]; rfl) ⟨pk_in 0 24 (by omega), pk_in V 24 (by omega), nm_r (e' := upd a16 V (-1)) (by rw [dc_cl (i := V) (by omega), dc_cl (i := 0) (by omega), q15]) ⟨pk_in 0 24 (by omega), nm_r (e' := upd b15 0 (nI V)) (by rw [dc_cl (by omega)]) ⟨pk_in V 24 (by omega), pk_in V 24 (by omega), nm_r (e' := upd b14 V 0) (by rw [dc_cl (by omega), e11]) ⟨pk_in V 24 (by omega),
      dc_eb h2 hN hV (by rw [dc_cl (by omega), e11]) pk_us pk_us q14 q13 pk_us pk_us (nm_r (e' := nI 0) (by decide) (pk_le 0 0 (fun _ => H _ _ _ _ _ _ pk_us pk_us) (fun z => absurd z (by omega))))⟩⟩⟩⟩⟩))⟩)⟩
/-! settle -/
theorem dc_se_0 {post : St2 → Prop} (h : post ((nI N), ec, 1, cu, qu, fa, a1, a2, a3, a4, a5, a6, a7, a8, a9, a10, a11, a12, a13, a14, a15, a16, upd a17 0 (-1), a18, a19, a20, a21, a22, a23, a24)) : wpX_settle post ((nI N), ec, 1, cu, qu, fa, a1, a2, a3, a4, a5, a6, a7, a8, a9, a10, a11, a12, a13, a14, a15, a16, a17, a18, a19, a20, a21, a22, a23, a24) :=
  Exists.intro (0 + 1) (pk_le 1 1 (fun _ => nm_e h) (fun z => absurd z (by omega)))
theorem dc_se_1 {post : St2 → Prop} {V : Nat} (hV : V < 24) (e10 : a10 0 = 0) (e10' : a10 1 = nI V) (e12 : a12 V = 0) (e17 : a17 V = 0)
    (h : post ((nI N), ec, 2, cu, qu, fa, a1, a2, a3, a4, a5, a6, a7, a8, a9, a10, a11, a12, a13, a14, a15, a16, upd a17 0 (-1), a18, a19, a20, a21, a22, a23, a24)) : wpX_settle post ((nI N), ec, 2, cu, qu, fa, a1, a2, a3, a4, a5, a6, a7, a8, a9, a10, a11, a12, a13, a14, a15, a16, a17, a18, a19, a20, a21, a22, a23, a24) :=
  Exists.intro (0 + 1 + 1) (pk_le 2 1 (fun z => absurd z (by omega)) (fun _ => ⟨pk_in 1 24 (by omega), nm_r (e' := nI V) (by rw [dc_cl1, e10']) ⟨pk_in V 24 hV, pk_in V 24 hV, pk_in 0 24 (by omega) (by rw [dc_cl (by omega), e12]; rfl), br_t (by rw [dc_cl (by omega), e12, e17, sb_cl0, e10]) (nm_r (e' := nI 2) (by decide) (pk_le 2 2 (fun _ => nm_e h) (fun z => absurd z (by omega))))⟩⟩))
/-! layOut -/
theorem dc_lo9 {post : St2 → Prop} (hN : N ≤ 24)
    (H : ∀ b19 : Nat → Int32, (∀ j, j < N → b19 j = 1) → ∃ n, wX_layOut_32 post (nI N) ec re cu qu fa n 1 a1 a2 a3 a4 a5 a6 a7 a8 a9 a10 a11 a12 a13 a14 a15 a16 a17 (upd a18 0 1) b19 a20 a21 a22 a23 a24) :
    wpX_layOut post ((nI N), ec, re, cu, qu, fa, a1, a2, a3, a4, a5, a6, a7, a8, a9, a10, a11, a12, a13, a14, a15, a16, a17, a18, a19, a20, a21, a22, a23, a24) := by
  unfold wpX_layOut
  exact nm_e (pk_loop (fun n i (s : Nat → Int32) => wX_layOut_9 post (nI N) ec re cu qu fa n (nI i) a1 a2 a3 a4 a5 a6 a7 a8 a9 a10 a11 a12 a13 a14 a15 a16 a17 (upd a18 0 1) s a20 a21 a22 a23 a24) (fun i s => ∀ j, j < i → s j = 1) N 0 a19 (by omega) lt_0
    (fun n s h => pk_le N N (fun _ => H s h) (fun z => absurd z (by omega)))
    (fun n i s hi h hw => pk_le N i (fun z => absurd z (by omega)) (fun _ => ⟨pk_in i 24 (by omega), nm_e (nm_r (nI_1 i) (hw _ (dc_fill (f := fun _ => 1) (dc_cl (by omega)) h rfl)))⟩)))
theorem dc_lo125 {post : St2 → Prop} (hN : N ≤ 24)
    (H : ∀ b7 : Nat → Int32, (∀ j, j < N → b7 j = 1) → ∃ n, wX_layOut_148 post (nI N) ec re cu qu fa n 1 a1 a2 a3 a4 a5 a6 b7 a8 a9 a10 a11 a12 a13 a14 a15 a16 a17 a18 a19 a20 a21 a22 a23 a24) :
    ∃ n, wX_layOut_125 post (nI N) ec re cu qu fa n 0 a1 a2 a3 a4 a5 a6 a7 a8 a9 a10 a11 a12 a13 a14 a15 a16 a17 a18 a19 a20 a21 a22 a23 a24 :=
  pk_loop (fun n i (s : Nat → Int32) => wX_layOut_125 post (nI N) ec re cu qu fa n (nI i) a1 a2 a3 a4 a5 a6 s a8 a9 a10 a11 a12 a13 a14 a15 a16 a17 a18 a19 a20 a21 a22 a23 a24) (fun i s => ∀ j, j < i → s j = 1) N 0 a7 (by omega) lt_0
    (fun n s h => pk_le N N (fun _ => H s h) (fun z => absurd z (by omega)))
    (fun n i s hi h hw => pk_le N i (fun z => absurd z (by omega)) (fun _ => ⟨pk_in i 24 (by omega), nm_e (nm_r (nI_1 i) (hw _ (dc_fill (f := fun _ => 1) (dc_cl (by omega)) h rfl)))⟩))
theorem dc_lo_0 {post : St2 → Prop} (h2 : 2 ≤ N) (hN : N ≤ 24)
    (H : ∀ b7 b18 b19 b20 : Nat → Int32, b19 0 = 1 → b20 0 = 0 → post ((nI N), ec, 1, cu, qu, fa, a1, a2, a3, a4, a5, a6, b7, a8, a9, a10, a11, a12, a13, a14, a15, a16, a17, b18, b19, b20, a21, a22, a23, a24)) :
    wpX_layOut post ((nI N), ec, 1, cu, qu, fa, a1, a2, a3, a4, a5, a6, a7, a8, a9, a10, a11, a12, a13, a14, a15, a16, a17, a18, a19, a20, a21, a22, a23, a24) :=
  dc_lo9 hN (fun b19 h19 => ⟨0 + 1, pk_le 1 1 (fun _ => nm_r (e' := nI 0) (by decide) ⟨0 + 1, pk_le 0 0 (fun _ => nm_e (dc_lo125 hN (fun b7 h7 => ⟨0 + 1, pk_le 1 1 (fun _ => H b7 _ b19 _ (h19 0 (by omega)) pk_us) (fun z => absurd z (by omega))⟩))) (fun z => absurd z (by omega))⟩) (fun z => absurd z (by omega))⟩)
theorem dc_lo_1 {post : St2 → Prop} (h2 : 2 ≤ N) (hN : N ≤ 24) {V : Nat} (hV : V < N) (hV0 : V ≠ 0) (e10 : a10 1 = nI V) (e17 : a17 V = 0)
    (H : ∀ b7 b18 b19 b20 : Nat → Int32, b19 0 = 2 → b19 V = 1 → b20 0 = 0 → b20 V = 1 → post ((nI N), ec, 2, cu, qu, fa, a1, a2, a3, a4, a5, a6, b7, a8, a9, a10, a11, a12, a13, a14, a15, a16, a17, b18, b19, b20, a21, a22, a23, a24)) :
    wpX_layOut post ((nI N), ec, 2, cu, qu, fa, a1, a2, a3, a4, a5, a6, a7, a8, a9, a10, a11, a12, a13, a14, a15, a16, a17, a18, a19, a20, a21, a22, a23, a24) := by
  refine dc_lo9 hN (fun b19 h19 => ?_)
  have hv : V < 24 := by omega
  have i0 : vp_in (0 : Int32) 24 := pk_in 0 24 (by omega)
  have i1 : vp_in (1 : Int32) 24 := pk_in 1 24 (by omega)
  have iV : vp_in (nI V) 24 := pk_in V 24 hv
  have cV : (nI V).toNatClampNeg = V := dc_cl (by omega)
  have iD : vp_in (a17 (nI V).toNatClampNeg) 24 := pk_in 0 24 (by omega) (by rw [cV, e17]; rfl)
  have s0 : b19 0 = 1 := h19 0 (by omega)
  have sV : b19 V = 1 := h19 V hV
  exact ⟨0 + 1 + 1, pk_le 2 1 (fun z => absurd z (by omega)) (fun _ => ⟨i1, nm_r (e' := nI V) (by rw [dc_cl1, e10]) ⟨iV, iD, iV, nm_e (nm_r (e' := 2) (by decide) (pk_le 2 2 (fun _ => nm_r (e' := 1) (by decide)
    ⟨0 + 1 + 1, pk_le 1 0 (fun z => absurd z (by omega)) (fun _ => ⟨i1, nm_r (e' := nI V) (by rw [dc_cl1, e10]) ⟨iV, iD, iV, iD, nm_r (e' := upd b19 0 2) (by rw [cV, e17, sb_cl0, s0, sV, dc_11]) (nm_r (e' := 0) (by decide) (pk_le 0 0 (fun _ => nm_e (dc_lo125 hN (fun b7 h7 =>
      ⟨0 + 1 + 1, pk_le 2 1 (fun z => absurd z (by omega)) (fun _ => ⟨i1, nm_r (e' := nI V) (by rw [dc_cl1, e10]) ⟨iV, nm_r (e' := 0) (by rw [cV, e17]) ⟨i0, i0, iV, nm_r (e' := upd (upd a20 0 0) V 1) (by rw [cV, sb_cl0, pk_us, h7 0 (by omega), dc_01]) ⟨i0, iV, i0, nm_e (nm_r (e' := 2) (by decide) (pk_le 2 2 (fun _ => H _ _ _ _ pk_us (by rw [pk_un hV0]; exact sV) (by rw [pk_un (by omega), pk_us]) pk_us) (fun z => absurd z (by omega))))⟩⟩⟩⟩)⟩))) (fun z => absurd z (by omega))))⟩⟩)⟩) (fun z => absurd z (by omega))))⟩⟩)⟩
/-! refresh -/
theorem dc_rf_0 {post : St2 → Prop} (h2 : 2 ≤ N) (hN : N ≤ 24) (hc : ec = 0 ∨ (ec = 1 ∧ ∃ U V : Nat, U < N ∧ V < N ∧ a1 0 = nI U ∧ a2 0 = nI V ∧ (U ≠ 0 ∨ V = 0)))
    (H : ∀ b3 b4 b5 b6 b7 b8 b9 b10 b11 b12 b13 b14 b15 b16 b17 b18 b19 b20 : Nat → Int32, b9 0 = 0 → (∀ j, j < N → j ≠ 0 → b9 j = -1) → b19 0 = 1 → b20 0 = 0 → post ((nI N), ec, 1, 1, qu, fa, a1, a2, b3, b4, b5, b6, b7, b8, b9, b10, b11, b12, b13, b14, b15, b16, b17, b18, b19, b20, a21, a22, a23, a24)) :
    wpX_refresh post ((nI N), ec, re, 0, qu, fa, a1, a2, a3, a4, a5, a6, a7, a8, a9, a10, a11, a12, a13, a14, a15, a16, a17, a18, a19, a20, a21, a22, a23, a24) := by
  rcases hc with hc | ⟨hc, U, V, hU, hV, e1, e2, hc'⟩
  · subst hc
    exact br_t rfl (dc_chain_0 hN (fun b3 b5 h3 h5 => dc_nv_0 h2 hN (Or.inl (h3 0 (by omega))) (fun b7 b8 b9 b10 b11 h9 h9' => dc_fs_0 hN (fun b12 b13 b14 b15 b17 => dc_se_0 (dc_lo_0 h2 hN (fun c7 c18 c19 c20 h19 h20 => H _ _ _ _ _ _ _ _ _ _ _ _ _ _ _ _ _ _ h9 h9' h19 h20))))))
  · subst hc
    refine br_t rfl (dc_chain_1 hN hU hV e1 e2 (fun b3 b4 b5 b6 h3 h3' h4 h5 h5' h6 => dc_nv_0 h2 hN ?_ (fun b7 b8 b9 b10 b11 h9 h9' => dc_fs_0 hN (fun b12 b13 b14 b15 b17 => dc_se_0 (dc_lo_0 h2 hN (fun c7 c18 c19 c20 h19 h20 => H _ _ _ _ _ _ _ _ _ _ _ _ _ _ _ _ _ _ h9 h9' h19 h20))))))
    by_cases hU0 : U = 0
    · subst hU0
      have hV0 : V = 0 := by omega
      subst hV0
      exact Or.inr ⟨h3, h4, e2⟩
    · exact Or.inl (h3' 0 (by omega) (by omega))
theorem dc_rf_1 {post : St2 → Prop} (h2 : 2 ≤ N) (hN : N ≤ 24) {V : Nat} (hV : V < N) (hV0 : V ≠ 0) (e1 : a1 0 = 0) (e2 : a2 0 = nI V)
    (H : ∀ b3 b4 b5 b6 b7 b8 b9 b10 b11 b12 b13 b14 b15 b16 b17 b18 b19 b20 : Nat → Int32, b5 V = 0 → b6 0 = -1 → b9 0 = 0 → b9 V = 1 → (∀ j, j < N → j ≠ 0 → j ≠ V → b9 j = -1) → b17 V = 0 → b19 0 = 2 → b19 V = 1 → b20 0 = 0 → b20 V = 1 →
      post ((nI N), 1, 2, 1, qu, fa, a1, a2, b3, b4, b5, b6, b7, b8, b9, b10, b11, b12, b13, b14, b15, b16, b17, b18, b19, b20, a21, a22, a23, a24)) :
    wpX_refresh post ((nI N), 1, re, 0, qu, fa, a1, a2, a3, a4, a5, a6, a7, a8, a9, a10, a11, a12, a13, a14, a15, a16, a17, a18, a19, a20, a21, a22, a23, a24) :=
  br_t rfl (dc_chain_1 hN (U := 0) (V := V) (by omega) hV e1 e2 (fun b3 b4 b5 b6 h3 h3' h4 h5 h5' h6 => dc_nv_1 h2 hN hV hV0 h3 (h3' V hV hV0) h4 e2 (fun b7 b8 b9 b10 b11 h9 h9V h9' h10 h10' h11 => dc_fs_1 h2 hN hV hV0 h9 h9V h10 h10' h11 h5 h6 e1 (fun b12 b13 b14 b15 b16 b17 h12 h17 => dc_se_1 (by omega) h10 h10' h12 h17 (dc_lo_1 h2 hN hV hV0 h10' (by rw [pk_un hV0]; exact h17) (fun c7 c18 c19 c20 h19 h19' h20 h20' => H _ _ _ _ _ _ _ _ _ _ _ _ _ _ _ _ _ _ h5 h6 h9 h9V h9' (by rw [pk_un hV0]; exact h17) h19 h19' h20 h20'))))))
end
end
section
theorem dc_1n0 : ¬ (1 : Int32) = 0 := by decide
theorem dc_in {i : Int32} (hi : i ≠ 0) (h : ¬ i < 0) : ¬ i < 1 := by
  obtain ⟨j, hj, rfl⟩ := nI_of h
  intro z
  have z' : nI j < nI 1 := z
  rw [nI_ltI hj (by omega)] at z'
  have j0 : j = 0 := by omega
  subst j0
  exact hi rfl
section
variable {N : Nat} {ec re cu qu fa : Int32} {a1 a2 a3 a4 a5 a6 a7 a8 a9 a10 a11 a12 a13 a14 a15 a16 a17 a18 a19 a20 a21 a22 a23 a24 : Nat → Int32}
theorem dc_isV {post : Int32 → Prop} (hN : N ≤ 24) {x g : Int32} (hg : dc_g N x g) (h : post g) : wpX_isVertex post ((nI N), ec, re, cu, qu, fa, a1, a2, a3, a4, a5, a6, a7, a8, a9, a10, a11, a12, a13, a14, a15, a16, a17, a18, a19, a20, a21, a22, a23, a24) x := by
  rcases hg with ⟨g0, hx | hx⟩ | ⟨g1, j, hj, hx⟩
  · subst g0
    exact br_t hx h
  · subst g0
    exact br_c (fun _ => h) (fun _ => br_t hx h)
  · subst g1
    subst hx
    exact br_f (nI_pos (by omega)) (br_f (nI_ge hj (by omega)) h)
theorem dc_link_0 {post : Int32 → St2 → Prop} (hN : N ≤ 24) {u v gu gv : Int32} (hu : dc_g N u gu) (hv : dc_g N v gv) (hn : gu = 0 ∨ gv = 0) (h : post (-1) ((nI N), ec, re, cu, qu, fa, a1, a2, a3, a4, a5, a6, a7, a8, a9, a10, a11, a12, a13, a14, a15, a16, a17, a18, a19, a20, a21, a22, a23, a24)) : wpX_link post ((nI N), ec, re, cu, qu, fa, a1, a2, a3, a4, a5, a6, a7, a8, a9, a10, a11, a12, a13, a14, a15, a16, a17, a18, a19, a20, a21, a22, a23, a24) u v := by
  unfold wpX_link
  refine dc_isV hN hu ?_
  by_cases e : gu = 0
  · exact br_t e h
  · refine br_f e (dc_isV hN hv ?_)
    exact br_t (hn.resolve_left e) h
theorem dc_link_1 {post : Int32 → St2 → Prop} (hN : N ≤ 24) {u v : Int32} (hu : dc_g N u 1) (hv : dc_g N v 1) (h : post 1 ((nI N), 1, re, 0, qu, fa, upd a1 0 u, upd a2 0 v, a3, a4, a5, a6, a7, a8, a9, a10, a11, a12, a13, a14, a15, a16, a17, a18, a19, a20, a21, a22, a23, a24)) : wpX_link post ((nI N), 0, re, cu, qu, fa, a1, a2, a3, a4, a5, a6, a7, a8, a9, a10, a11, a12, a13, a14, a15, a16, a17, a18, a19, a20, a21, a22, a23, a24) u v := by
  unfold wpX_link
  exact dc_isV hN hu (br_f dc_1n0 (dc_isV hN hv (br_f dc_1n0 (br_f (by decide) ⟨pk_in 0 60 (by omega), nm_r (e' := upd a1 0 u) (by rw [sb_cl0]) ⟨pk_in 0 60 (by omega), nm_r (e' := upd a2 0 v) (by rw [sb_cl0]) (nm_r (e' := 1) (by decide) h)⟩⟩))))
/-- a refreshed state: refresh does nothing -/
theorem dc_rf_c {post : St2 → Prop} (h : post ((nI N), ec, re, 1, qu, fa, a1, a2, a3, a4, a5, a6, a7, a8, a9, a10, a11, a12, a13, a14, a15, a16, a17, a18, a19, a20, a21, a22, a23, a24)) : wpX_refresh post ((nI N), ec, re, 1, qu, fa, a1, a2, a3, a4, a5, a6, a7, a8, a9, a10, a11, a12, a13, a14, a15, a16, a17, a18, a19, a20, a21, a22, a23, a24) :=
  br_f dc_1n0 h
theorem dc_over_no {post : Int32 → Prop} {W : Nat} {p : Int32} (hW : W < 24) (e : a9 W = -1) (h : post 0) : wpX_over post ((nI N), ec, re, cu, qu, fa, a1, a2, a3, a4, a5, a6, a7, a8, a9, a10, a11, a12, a13, a14, a15, a16, a17, a18, a19, a20, a21, a22, a23, a24) (nI W) p :=
  And.intro (pk_in W 24 hW) (br_t (by rw [dc_cl (by omega), e]; decide) h)
theorem dc_over_yes {post : Int32 → Prop} {W P k a b c : Nat} (hW : W < 24) (hP : P < 24) (e9 : a9 W = nI k) (ea : a20 W = nI a) (eb : a20 P = nI b) (ec' : a19 W = nI c) (hk : k < 60) (h1 : a ≤ b) (h2 : b < a + c) (h3 : a + c < 60) (h : post 1) : wpX_over post ((nI N), ec, re, cu, qu, fa, a1, a2, a3, a4, a5, a6, a7, a8, a9, a10, a11, a12, a13, a14, a15, a16, a17, a18, a19, a20, a21, a22, a23, a24) (nI W) (nI P) :=
  And.intro (pk_in W 24 hW) (br_f (by rw [dc_cl (by omega), e9]; exact nI_pos (by omega)) ⟨pk_in W 24 hW, pk_in P 24 hP, br_f (by rw [dc_cl (i := P) (by omega), dc_cl (i := W) (by omega), ea, eb]; exact nI_nlt h1 (by omega)) ⟨pk_in P 24 hP, pk_in W 24 hW, pk_in W 24 hW, br_f (by rw [dc_cl (i := P) (by omega), dc_cl (i := W) (by omega), ea, eb, ec', nI_add]; exact nI_ge h2 (by omega)) h⟩⟩)
/-! immediate -/
theorem dc_imm_m {post : Int32 → St2 → Prop} (hN : N ≤ 24) {v : Int32} (hv : dc_g N v 0) (h : post (-1) ((nI N), ec, re, cu, qu, fa, a1, a2, a3, a4, a5, a6, a7, a8, a9, a10, a11, a12, a13, a14, a15, a16, a17, a18, a19, a20, a21, a22, a23, a24)) : wpX_immediate post ((nI N), ec, re, cu, qu, fa, a1, a2, a3, a4, a5, a6, a7, a8, a9, a10, a11, a12, a13, a14, a15, a16, a17, a18, a19, a20, a21, a22, a23, a24) v := by
  unfold wpX_immediate
  exact dc_isV hN hv (br_t rfl h)
theorem dc_imm_3 {post : Int32 → St2 → Prop} (h2 : 2 ≤ N) (hN : N ≤ 24) (e9 : a9 0 = 0) (h : post (-3) ((nI N), ec, re, 1, qu, fa, a1, a2, a3, a4, a5, a6, a7, a8, a9, a10, a11, a12, a13, a14, a15, a16, a17, a18, a19, a20, a21, a22, a23, a24)) : wpX_immediate post ((nI N), ec, re, 1, qu, fa, a1, a2, a3, a4, a5, a6, a7, a8, a9, a10, a11, a12, a13, a14, a15, a16, a17, a18, a19, a20, a21, a22, a23, a24) 0 := by
  unfold wpX_immediate
  exact dc_isV hN (Or.inr ⟨rfl, 0, by omega, rfl⟩) (br_f dc_1n0 (dc_rf_c (And.intro (pk_in 0 24 (by omega)) (br_t (by rw [sb_cl0, e9]; decide) (br_t rfl h)))))
theorem dc_imm_2 {post : Int32 → St2 → Prop} (hN : N ≤ 24) {V : Nat} (hV : V < N) (e9 : a9 V = -1) (h : post (-2) ((nI N), ec, re, 1, qu, fa, a1, a2, a3, a4, a5, a6, a7, a8, a9, a10, a11, a12, a13, a14, a15, a16, a17, a18, a19, a20, a21, a22, a23, a24)) : wpX_immediate post ((nI N), ec, re, 1, qu, fa, a1, a2, a3, a4, a5, a6, a7, a8, a9, a10, a11, a12, a13, a14, a15, a16, a17, a18, a19, a20, a21, a22, a23, a24) (nI V) := by
  unfold wpX_immediate
  exact dc_isV hN (Or.inr ⟨rfl, V, hV, rfl⟩) (br_f dc_1n0 (dc_rf_c (And.intro (pk_in V 24 (by omega)) (br_f (by rw [dc_cl (by omega), e9]; decide) h))))
theorem dc_imm_0 {post : Int32 → St2 → Prop} (hN : N ≤ 24) {V : Nat} (hV : V < N) (hV0 : V ≠ 0) (e9 : a9 V = 1) (e17 : a17 V = 0) (h : post 0 ((nI N), ec, re, 1, qu, fa, a1, a2, a3, a4, a5, a6, a7, a8, a9, a10, a11, a12, a13, a14, a15, a16, a17, a18, a19, a20, a21, a22, a23, a24)) : wpX_immediate post ((nI N), ec, re, 1, qu, fa, a1, a2, a3, a4, a5, a6, a7, a8, a9, a10, a11, a12, a13, a14, a15, a16, a17, a18, a19, a20, a21, a22, a23, a24) (nI V) := by
  unfold wpX_immediate
  exact dc_isV hN (Or.inr ⟨rfl, V, hV, rfl⟩) (br_f dc_1n0 (dc_rf_c (And.intro (pk_in V 24 (by omega)) (br_t (by rw [dc_cl (by omega), e9]; decide) (br_f (nI_ne0 (by omega) (by omega)) ⟨pk_in V 24 (by omega), by rw [dc_cl (by omega), e17]; exact h⟩)))))
/-! dominates -/
theorem dc_dom_m {post : Int32 → St2 → Prop} (hN : N ≤ 24) {w v gw gv : Int32} (hw : dc_g N w gw) (hv : dc_g N v gv) (hn : gw = 0 ∨ gv = 0) (h : post (-1) ((nI N), ec, re, cu, qu, fa, a1, a2, a3, a4, a5, a6, a7, a8, a9, a10, a11, a12, a13, a14, a15, a16, a17, a18, a19, a20, a21, a22, a23, a24)) : wpX_dominates post ((nI N), ec, re, cu, qu, fa, a1, a2, a3, a4, a5, a6, a7, a8, a9, a10, a11, a12, a13, a14, a15, a16, a17, a18, a19, a20, a21, a22, a23, a24) w v := by
  unfold wpX_dominates
  refine dc_isV hN hw ?_
  by_cases e : gw = 0
  · exact br_t e h
  · refine br_f e (dc_isV hN hv ?_)
    exact br_t (hn.resolve_left e) h
theorem dc_dom_2 {post : Int32 → St2 → Prop} (hN : N ≤ 24) {W V : Nat} (hW : W < N) (hV : V < N) (e9 : a9 V = -1) (h : post (-2) ((nI N), ec, re, 1, qu, fa, a1, a2, a3, a4, a5, a6, a7, a8, a9, a10, a11, a12, a13, a14, a15, a16, a17, a18, a19, a20, a21, a22, a23, a24)) : wpX_dominates post ((nI N), ec, re, 1, qu, fa, a1, a2, a3, a4, a5, a6, a7, a8, a9, a10, a11, a12, a13, a14, a15, a16, a17, a18, a19, a20, a21, a22, a23, a24) (nI W) (nI V) := by
  unfold wpX_dominates
  exact dc_isV hN (Or.inr ⟨rfl, W, hW, rfl⟩) (br_f dc_1n0 (dc_isV hN (Or.inr ⟨rfl, V, hV, rfl⟩) (br_f dc_1n0 (dc_rf_c (And.intro (pk_in V 24 (by omega)) (br_f (by rw [dc_cl (by omega), e9]; decide) h))))))
theorem dc_dom_0 {post : Int32 → St2 → Prop} (hN : N ≤ 24) {W V : Nat} (hW : W < N) (hV : V < N) (e9 : 0 ≤ a9 V) (e9' : a9 W = -1) (h : post 0 ((nI N), ec, re, 1, qu, fa, a1, a2, a3, a4, a5, a6, a7, a8, a9, a10, a11, a12, a13, a14, a15, a16, a17, a18, a19, a20, a21, a22, a23, a24)) : wpX_dominates post ((nI N), ec, re, 1, qu, fa, a1, a2, a3, a4, a5, a6, a7, a8, a9, a10, a11, a12, a13, a14, a15, a16, a17, a18, a19, a20, a21, a22, a23, a24) (nI W) (nI V) := by
  unfold wpX_dominates
  exact dc_isV hN (Or.inr ⟨rfl, W, hW, rfl⟩) (br_f dc_1n0 (dc_isV hN (Or.inr ⟨rfl, V, hV, rfl⟩) (br_f dc_1n0 (dc_rf_c (And.intro (pk_in V 24 (by omega)) (br_t (by rw [dc_cl (by omega)]; exact e9) (dc_over_no (by omega) e9' (br_t rfl h))))))))
theorem dc_dom_1 {post : Int32 → St2 → Prop} (hN : N ≤ 24) {W V k a b c : Nat} (hW : W < N) (hV : V < N) (e9 : 0 ≤ a9 V) (e9' : a9 W = nI k) (ea : a20 W = nI a) (eb : a20 V = nI b) (ec' : a19 W = nI c) (hk : k < 60) (h1 : a ≤ b) (h2 : b < a + c) (h3 : a + c < 60) (h : post 1 ((nI N), ec, re, 1, qu, fa, a1, a2, a3, a4, a5, a6, a7, a8, a9, a10, a11, a12, a13, a14, a15, a16, a17, a18, a19, a20, a21, a22, a23, a24)) : wpX_dominates post ((nI N), ec, re, 1, qu, fa, a1, a2, a3, a4, a5, a6, a7, a8, a9, a10, a11, a12, a13, a14, a15, a16, a17, a18, a19, a20, a21, a22, a23, a24) (nI W) (nI V) := by
  unfold wpX_dominates
  exact dc_isV hN (Or.inr ⟨rfl, W, hW, rfl⟩) (br_f dc_1n0 (dc_isV hN (Or.inr ⟨rfl, V, hV, rfl⟩) (br_f dc_1n0 (dc_rf_c (And.intro (pk_in V 24 (by omega)) (br_t (by rw [dc_cl (by omega)]; exact e9) (dc_over_yes (by omega) (by omega) e9' ea eb ec' hk h1 h2 h3 (br_f dc_1n0 h))))))))
/-! needs -/
theorem dc_needs_m {post : Int32 → St2 → Prop} {i v : Int32} (hi : ¬ i < 0 → ¬ i < ec) (h : post (-1) ((nI N), ec, re, cu, qu, fa, a1, a2, a3, a4, a5, a6, a7, a8, a9, a10, a11, a12, a13, a14, a15, a16, a17, a18, a19, a20, a21, a22, a23, a24)) : wpX_needs post ((nI N), ec, re, cu, qu, fa, a1, a2, a3, a4, a5, a6, a7, a8, a9, a10, a11, a12, a13, a14, a15, a16, a17, a18, a19, a20, a21, a22, a23, a24) i v :=
  br_c (fun _ => h) (fun g => br_f (hi g) h)
theorem dc_needs_0 {post : Int32 → St2 → Prop} (h2 : 2 ≤ N) (hN : N ≤ 24) (e9 : a9 0 = 0) (e2 : a2 0 = 0) (h : post 0 ((nI N), 1, re, 1, qu, fa, a1, a2, a3, a4, a5, a6, a7, a8, a9, a10, a11, a12, a13, a14, a15, a16, a17, a18, a19, a20, a21, a22, a23, a24)) : wpX_needs post ((nI N), 1, re, 1, qu, fa, a1, a2, a3, a4, a5, a6, a7, a8, a9, a10, a11, a12, a13, a14, a15, a16, a17, a18, a19, a20, a21, a22, a23, a24) 0 0 :=
  br_f (by decide) (br_t (by decide) (dc_isV hN (Or.inr ⟨rfl, 0, by omega, rfl⟩) (br_f dc_1n0 (dc_rf_c (And.intro (pk_in 0 24 (by omega)) (br_t (by rw [sb_cl0, e9]; decide) (And.intro (pk_in 0 60 (by omega)) (nm_r (e' := 0) (by rw [sb_cl0, e2]) (br_t rfl (br_t rfl h))))))))))
theorem dc_needs_3 {post : Int32 → St2 → Prop} (hN : N ≤ 24) {V : Nat} (hV : V < N) (e9 : a9 V = -1) (h : post (-3) ((nI N), 1, re, 1, qu, fa, a1, a2, a3, a4, a5, a6, a7, a8, a9, a10, a11, a12, a13, a14, a15, a16, a17, a18, a19, a20, a21, a22, a23, a24)) : wpX_needs post ((nI N), 1, re, 1, qu, fa, a1, a2, a3, a4, a5, a6, a7, a8, a9, a10, a11, a12, a13, a14, a15, a16, a17, a18, a19, a20, a21, a22, a23, a24) 0 (nI V) :=
  br_f (by decide) (br_t (by decide) (dc_isV hN (Or.inr ⟨rfl, V, hV, rfl⟩) (br_f dc_1n0 (dc_rf_c (And.intro (pk_in V 24 (by omega)) (br_f (by rw [dc_cl (by omega), e9]; decide) h))))))
theorem dc_bridge {post : Int32 → Prop} {V : Nat} (hV : V < 24) (hV0 : V ≠ 0) (e1 : a1 0 = 0) (e2 : a2 0 = nI V) (e5 : a5 V = 0) (e6 : a6 0 = -1) (e9 : a9 V = 1) (e17 : a17 V = 0) (h : post 1) : wpX_isBridge post ((nI N), ec, re, cu, qu, fa, a1, a2, a3, a4, a5, a6, a7, a8, a9, a10, a11, a12, a13, a14, a15, a16, a17, a18, a19, a20, a21, a22, a23, a24) 0 :=
  And.intro (pk_in 0 60 (by omega)) (nm_r (e' := nI V) (by rw [sb_cl0, e2]) (br_f (nI_ne0 (by omega) (by omega)) ⟨pk_in V 24 hV, br_f (by rw [dc_cl (by omega), e9]; decide) ⟨pk_in V 24 hV, pk_in 0 60 (by omega), br_t (by rw [dc_cl (by omega), e17, sb_cl0, e1]) ⟨pk_in V 24 hV, nm_r (e' := 0) (by rw [dc_cl (by omega), e5]) ⟨0 + 1 + 1, pk_le 60 0 (fun z => absurd z (by omega)) (fun _ => br_f (by decide) (br_t rfl ⟨pk_in 0 60 (by omega), nm_r (e' := -1) (by rw [sb_cl0, e6]) (nm_r (e' := nI 1) (by decide) (pk_le 60 1 (fun z => absurd z (by omega)) (fun _ => br_t rfl h)))⟩))⟩⟩⟩⟩))
theorem dc_needs_1 {post : Int32 → St2 → Prop} (hN : N ≤ 24) {V : Nat} (hV : V < N) (hV0 : V ≠ 0) (e1 : a1 0 = 0) (e2 : a2 0 = nI V) (e5 : a5 V = 0) (e6 : a6 0 = -1) (e9 : a9 V = 1) (e17 : a17 V = 0) (e19 : a19 V = 1) (e20 : a20 V = 1) (h : post 1 ((nI N), 1, re, 1, qu, fa, a1, a2, a3, a4, a5, a6, a7, a8, a9, a10, a11, a12, a13, a14, a15, a16, a17, a18, a19, a20, a21, a22, a23, a24)) : wpX_needs post ((nI N), 1, re, 1, qu, fa, a1, a2, a3, a4, a5, a6, a7, a8, a9, a10, a11, a12, a13, a14, a15, a16, a17, a18, a19, a20, a21, a22, a23, a24) 0 (nI V) := by
  have e9' : 0 ≤ a9 (nI V).toNatClampNeg := by rw [dc_cl (by omega), e9]; decide
  have e2' : a2 (0 : Int32).toNatClampNeg = nI V := by rw [sb_cl0, e2]
  refine br_f (by decide) (br_t (by decide) (dc_isV hN (Or.inr ⟨rfl, V, hV, rfl⟩) (br_f dc_1n0 (dc_rf_c (And.intro (pk_in V 24 (by omega)) (br_t e9' (dc_bridge (by omega) hV0 e1 e2 e5 e6 e9 e17 (br_f dc_1n0 ⟨pk_in 0 60 (by omega), ?_⟩))))))))
  rw [e2']
  exact dc_over_yes (k := 1) (a := 1) (b := 1) (c := 1) (by omega) (by omega) e9 e20 e20 e19 (by omega) (by omega) (by omega) (by omega) (br_f dc_1n0 h)
/-! cut -/
theorem dc_cut_m {post : Int32 → St2 → Prop} {i : Int32} (hi : ¬ i < 0 → ¬ i < ec) (h : post (-1) ((nI N), ec, re, cu, qu, fa, a1, a2, a3, a4, a5, a6, a7, a8, a9, a10, a11, a12, a13, a14, a15, a16, a17, a18, a19, a20, a21, a22, a23, a24)) : wpX_cut post ((nI N), ec, re, cu, qu, fa, a1, a2, a3, a4, a5, a6, a7, a8, a9, a10, a11, a12, a13, a14, a15, a16, a17, a18, a19, a20, a21, a22, a23, a24) i :=
  br_c (fun _ => h) (fun g => br_f (hi g) h)
theorem dc_cut_0 {post : Int32 → St2 → Prop} (h : post 0 ((nI N), 0, re, 0, qu, fa, a1, a2, a3, a4, a5, a6, a7, a8, a9, a10, a11, a12, a13, a14, a15, a16, a17, a18, a19, a20, a21, a22, a23, a24)) : wpX_cut post ((nI N), 1, re, cu, qu, fa, a1, a2, a3, a4, a5, a6, a7, a8, a9, a10, a11, a12, a13, a14, a15, a16, a17, a18, a19, a20, a21, a22, a23, a24) 0 :=
  br_f (by decide) (br_t (by decide) (nm_r (e' := nI 1) (by decide) ⟨0 + 1, pk_le 1 1 (fun _ => nm_r (e' := 0) (by decide) h) (fun z => absurd z (by omega))⟩))
end
end
section
section
variable {N : Nat} {ec re cu qu fa : Int32} {a1 a2 a3 a4 a5 a6 a7 a8 a9 a10 a11 a12 a13 a14 a15 a16 a17 a18 a19 a20 a21 a22 a23 a24 : Nat → Int32}
variable {post : Int32 → St0 → Prop} {mc ms kc ks : Nat} {u v w i gu gv gw made leads z0 : Int32}
/-! needs, then cut, then the last answer -/
theorem dc_310_m (hp : post 1 ()) (hi : ¬ i < 0 → ¬ i < ec) (hm : made = 0 ∨ i ≠ 0) : wL_lawOf_310 post mc ms v i made (-1) kc ks (nI N) ec re cu qu fa a1 a2 a3 a4 a5 a6 a7 a8 a9 a10 a11 a12 a13 a14 a15 a16 a17 a18 a19 a20 a21 a22 a23 a24 := by
  unfold wL_lawOf_310
  refine dc_needs_m hi (br_t rfl (dc_cut_m hi ?_))
  by_cases e : made = 0
  · exact br_t e (br_t rfl hp)
  · exact br_f e (br_f (hm.resolve_left e) (br_t rfl hp))
theorem dc_310_k (hp : post 1 ()) (hn : ∀ P : Int32 → St2 → Prop, P z0 ((nI N), 1, re, 1, qu, fa, a1, a2, a3, a4, a5, a6, a7, a8, a9, a10, a11, a12, a13, a14, a15, a16, a17, a18, a19, a20, a21, a22, a23, a24) → wpX_needs P ((nI N), 1, re, 1, qu, fa, a1, a2, a3, a4, a5, a6, a7, a8, a9, a10, a11, a12, a13, a14, a15, a16, a17, a18, a19, a20, a21, a22, a23, a24) 0 v) : wL_lawOf_310 post mc ms v 0 1 z0 kc ks (nI N) 1 re 1 qu fa a1 a2 a3 a4 a5 a6 a7 a8 a9 a10 a11 a12 a13 a14 a15 a16 a17 a18 a19 a20 a21 a22 a23 a24 := by
  unfold wL_lawOf_310
  exact hn _ (br_t rfl (dc_cut_0 (br_f dc_1n0 (br_t rfl (br_t rfl hp)))))
/-! dominates, then these: no edge; an edge that leads nowhere; an edge that leads -/
theorem dc_261_n (hp : post 1 ()) (hd : ∀ P : Int32 → St2 → Prop, P z0 ((nI N), 0, re, 1, qu, fa, a1, a2, a3, a4, a5, a6, a7, a8, a9, a10, a11, a12, a13, a14, a15, a16, a17, a18, a19, a20, a21, a22, a23, a24) → wpX_dominates P ((nI N), 0, re, 1, qu, fa, a1, a2, a3, a4, a5, a6, a7, a8, a9, a10, a11, a12, a13, a14, a15, a16, a17, a18, a19, a20, a21, a22, a23, a24) w v) : wL_lawOf_261 post mc ms v w i 0 0 z0 kc ks (nI N) 0 re 1 qu fa a1 a2 a3 a4 a5 a6 a7 a8 a9 a10 a11 a12 a13 a14 a15 a16 a17 a18 a19 a20 a21 a22 a23 a24 := by
  unfold wL_lawOf_261
  exact hd _ (br_t rfl (br_t rfl (dc_310_m hp (fun h => h) (Or.inl rfl))))
theorem dc_261_e (hp : post 1 ()) (h2 : 2 ≤ N) (hN : N ≤ 24) {V : Nat} (hV : V < N) (e2 : a2 0 = nI V) (e9 : a9 0 = 0) (e9' : ∀ j, j < N → j ≠ 0 → a9 j = -1)
    (hd : ∀ P : Int32 → St2 → Prop, P z0 ((nI N), 1, re, 1, qu, fa, a1, a2, a3, a4, a5, a6, a7, a8, a9, a10, a11, a12, a13, a14, a15, a16, a17, a18, a19, a20, a21, a22, a23, a24) → wpX_dominates P ((nI N), 1, re, 1, qu, fa, a1, a2, a3, a4, a5, a6, a7, a8, a9, a10, a11, a12, a13, a14, a15, a16, a17, a18, a19, a20, a21, a22, a23, a24) w (nI V)) : wL_lawOf_261 post mc ms (nI V) w i 1 0 z0 kc ks (nI N) 1 re 1 qu fa a1 a2 a3 a4 a5 a6 a7 a8 a9 a10 a11 a12 a13 a14 a15 a16 a17 a18 a19 a20 a21 a22 a23 a24 := by
  unfold wL_lawOf_261
  refine hd _ (br_t rfl (br_f dc_1n0 (br_c (fun e => ?_) (fun e => dc_310_m hp (dc_in e) (Or.inr e)))))
  subst e
  by_cases hV0 : V = 0
  · subst hV0
    exact br_t rfl (dc_310_k hp (fun P h => dc_needs_0 h2 hN e9 e2 h))
  · exact br_f (nI_ne0 (by omega) (by omega)) (br_t rfl (dc_310_k hp (fun P h => dc_needs_3 hN hV (e9' V hV hV0) h)))
theorem dc_261_l (hp : post 1 ()) (hN : N ≤ 24) {V : Nat} (hV : V < N) (hV0 : V ≠ 0) (e1 : a1 0 = 0) (e2 : a2 0 = nI V) (e5 : a5 V = 0) (e6 : a6 0 = -1) (e9 : a9 V = 1) (e17 : a17 V = 0) (e19 : a19 V = 1) (e20 : a20 V = 1)
    (hd : ∀ P : Int32 → St2 → Prop, P z0 ((nI N), 1, re, 1, qu, fa, a1, a2, a3, a4, a5, a6, a7, a8, a9, a10, a11, a12, a13, a14, a15, a16, a17, a18, a19, a20, a21, a22, a23, a24) → wpX_dominates P ((nI N), 1, re, 1, qu, fa, a1, a2, a3, a4, a5, a6, a7, a8, a9, a10, a11, a12, a13, a14, a15, a16, a17, a18, a19, a20, a21, a22, a23, a24) w (nI V)) : wL_lawOf_261 post mc ms (nI V) w i 1 1 z0 kc ks (nI N) 1 re 1 qu fa a1 a2 a3 a4 a5 a6 a7 a8 a9 a10 a11 a12 a13 a14 a15 a16 a17 a18 a19 a20 a21 a22 a23 a24 := by
  unfold wL_lawOf_261
  refine hd _ (br_t rfl (br_f dc_1n0 (br_c (fun e => ?_) (fun e => dc_310_m hp (dc_in e) (Or.inr e)))))
  subst e
  exact br_f (nI_ne0 (by omega) (by omega)) (br_f dc_1n0 (dc_310_k hp (fun P h => dc_needs_1 hN hV hV0 e1 e2 e5 e6 e9 e17 e19 e20 h)))
/-! the due answer of dominates -/
theorem dc_221_0 (h2 : 2 ≤ N) (hN : N ≤ 24) (hv : dc_g N v gv) (hw : dc_g N w gw) {o : Int32} (ho : (o = 1 ∧ (w = 0 ∨ w = v)) ∨ (o = 0 ∧ w ≠ 0 ∧ w ≠ v)) (e9 : a9 0 = 0) (e9' : ∀ j, j < N → j ≠ 0 → a9 j = -1) (e19 : a19 0 = 1) (e20 : a20 0 = 0)
    (hK : ∀ z, (∀ P : Int32 → St2 → Prop, P z ((nI N), ec, re, 1, qu, fa, a1, a2, a3, a4, a5, a6, a7, a8, a9, a10, a11, a12, a13, a14, a15, a16, a17, a18, a19, a20, a21, a22, a23, a24) → wpX_dominates P ((nI N), ec, re, 1, qu, fa, a1, a2, a3, a4, a5, a6, a7, a8, a9, a10, a11, a12, a13, a14, a15, a16, a17, a18, a19, a20, a21, a22, a23, a24) w v) → wL_lawOf_261 post mc ms v w i made 0 z kc ks (nI N) ec re 1 qu fa a1 a2 a3 a4 a5 a6 a7 a8 a9 a10 a11 a12 a13 a14 a15 a16 a17 a18 a19 a20 a21 a22 a23 a24) :
    wL_lawOf_221 post mc ms v w i gv gw made 0 o kc ks (nI N) ec re 1 qu fa a1 a2 a3 a4 a5 a6 a7 a8 a9 a10 a11 a12 a13 a14 a15 a16 a17 a18 a19 a20 a21 a22 a23 a24 := by
  by_cases g1 : gw = 0
  · exact br_t g1 (hK (-1) (fun P h => dc_dom_m hN hw hv (Or.inl g1) h))
  refine br_f g1 ?_
  by_cases g2 : gv = 0
  · exact br_t g2 (hK (-1) (fun P h => dc_dom_m hN hw hv (Or.inr g2) h))
  refine br_f g2 ?_
  rcases hw with ⟨g, _⟩ | ⟨_, W, hW, ew⟩
  · exact absurd g g1
  rcases hv with ⟨g, _⟩ | ⟨_, V, hV, ev⟩
  · exact absurd g g2
  subst ew
  subst ev
  by_cases hV0 : V = 0
  · subst hV0
    refine br_t rfl ?_
    by_cases hW0 : W = 0
    · subst hW0
      rcases ho with ⟨o1, _⟩ | ⟨_, h0, _⟩
      · subst o1
        exact br_f dc_1n0 (hK 1 (fun P h => dc_dom_1 (k := 0) (a := 0) (b := 0) (c := 1) hN hW hV (by rw [e9]; decide) e9 e20 e20 e19 (by omega) (by omega) (by omega) (by omega) h))
      · exact absurd rfl h0
    · have hWn : ¬ nI W = 0 := nI_ne0 (by omega) (by omega)
      rcases ho with ⟨_, h0 | h0⟩ | ⟨o0, _⟩
      · exact absurd h0 hWn
      · exact absurd h0 hWn
      · subst o0
        exact br_t rfl (hK 0 (fun P h => dc_dom_0 hN hW hV (by rw [e9]; decide) (e9' W hW hW0) h))
  · exact br_f (nI_ne0 (by omega) (by omega)) (br_t rfl (hK (-2) (fun P h => dc_dom_2 hN hW hV (e9' V hV hV0) h)))
theorem dc_221_1 (h2 : 2 ≤ N) (hN : N ≤ 24) {V : Nat} (hV : V < N) (hV0 : V ≠ 0) (hw : dc_g N w gw) {o : Int32} (ho : (o = 1 ∧ (w = 0 ∨ w = nI V)) ∨ (o = 0 ∧ w ≠ 0 ∧ w ≠ nI V)) (e9 : a9 0 = 0) (e9V : a9 V = 1) (e9' : ∀ j, j < N → j ≠ 0 → j ≠ V → a9 j = -1) (e19 : a19 0 = 2) (e19V : a19 V = 1) (e20 : a20 0 = 0) (e20V : a20 V = 1)
    (hK : ∀ z, (∀ P : Int32 → St2 → Prop, P z ((nI N), ec, re, 1, qu, fa, a1, a2, a3, a4, a5, a6, a7, a8, a9, a10, a11, a12, a13, a14, a15, a16, a17, a18, a19, a20, a21, a22, a23, a24) → wpX_dominates P ((nI N), ec, re, 1, qu, fa, a1, a2, a3, a4, a5, a6, a7, a8, a9, a10, a11, a12, a13, a14, a15, a16, a17, a18, a19, a20, a21, a22, a23, a24) w (nI V)) → wL_lawOf_261 post mc ms (nI V) w i made 1 z kc ks (nI N) ec re 1 qu fa a1 a2 a3 a4 a5 a6 a7 a8 a9 a10 a11 a12 a13 a14 a15 a16 a17 a18 a19 a20 a21 a22 a23 a24) :
    wL_lawOf_221 post mc ms (nI V) w i 1 gw made 1 o kc ks (nI N) ec re 1 qu fa a1 a2 a3 a4 a5 a6 a7 a8 a9 a10 a11 a12 a13 a14 a15 a16 a17 a18 a19 a20 a21 a22 a23 a24 := by
  by_cases g1 : gw = 0
  · exact br_t g1 (hK (-1) (fun P h => dc_dom_m (gv := 1) hN hw (Or.inr ⟨rfl, V, hV, rfl⟩) (Or.inl g1) h))
  refine br_f g1 (br_f dc_1n0 (br_f (nI_ne0 (by omega) (by omega)) (br_f dc_1n0 ?_)))
  rcases hw with ⟨g, _⟩ | ⟨_, W, hW, ew⟩
  · exact absurd g g1
  subst ew
  have v9 : 0 ≤ a9 V := by rw [e9V]; decide
  by_cases hW0 : W = 0
  · subst hW0
    rcases ho with ⟨o1, _⟩ | ⟨_, h0, _⟩
    · subst o1
      exact br_f dc_1n0 (hK 1 (fun P h => dc_dom_1 (k := 0) (a := 0) (b := 1) (c := 2) hN hW hV v9 e9 e20 e20V e19 (by omega) (by omega) (by omega) (by omega) h))
    · exact absurd rfl h0
  · by_cases hWV : W = V
    · subst hWV
      rcases ho with ⟨o1, _⟩ | ⟨_, _, h0⟩
      · subst o1
        exact br_f dc_1n0 (hK 1 (fun P h => dc_dom_1 (k := 1) (a := 1) (b := 1) (c := 1) hN hW hV v9 e9V e20V e20V e19V (by omega) (by omega) (by omega) (by omega) h))
      · exact absurd rfl h0
    · have hWn : ¬ nI W = 0 := nI_ne0 (by omega) (by omega)
      have hWn' : ¬ nI W = nI V := fun z => hWV ((nI_eq (by omega) (by omega)).mp z)
      rcases ho with ⟨_, h0 | h0⟩ | ⟨o0, _⟩
      · exact absurd h0 hWn
      · exact absurd h0 hWn'
      · subst o0
        exact br_t rfl (hK 0 (fun P h => dc_dom_0 hN hW hV v9 (e9' W hW hW0 hWV) h))
/-! immediate -/
theorem dc_192 (hi : ∀ P : Int32 → St2 → Prop, P z0 ((nI N), ec, re, cu, qu, fa, a1, a2, a3, a4, a5, a6, a7, a8, a9, a10, a11, a12, a13, a14, a15, a16, a17, a18, a19, a20, a21, a22, a23, a24) → wpX_immediate P ((nI N), ec, re, cu, qu, fa, a1, a2, a3, a4, a5, a6, a7, a8, a9, a10, a11, a12, a13, a14, a15, a16, a17, a18, a19, a20, a21, a22, a23, a24) v)
    (hK : ∀ o : Int32, ((o = 1 ∧ (w = 0 ∨ w = v)) ∨ (o = 0 ∧ w ≠ 0 ∧ w ≠ v)) → wL_lawOf_221 post mc ms v w i gv gw made leads o kc ks (nI N) ec re cu qu fa a1 a2 a3 a4 a5 a6 a7 a8 a9 a10 a11 a12 a13 a14 a15 a16 a17 a18 a19 a20 a21 a22 a23 a24) :
    wL_lawOf_192 post mc ms v w i gv gw made leads z0 kc ks (nI N) ec re cu qu fa a1 a2 a3 a4 a5 a6 a7 a8 a9 a10 a11 a12 a13 a14 a15 a16 a17 a18 a19 a20 a21 a22 a23 a24 := by
  unfold wL_lawOf_192
  exact hi _ (br_t rfl (br_c (fun e => hK 1 (Or.inl ⟨rfl, Or.inl e⟩)) (fun e => br_c (fun e' => hK 1 (Or.inl ⟨rfl, Or.inr e'⟩)) (fun e' => hK 0 (Or.inr ⟨rfl, e, e'⟩)))))
theorem dc_158_0 (h2 : 2 ≤ N) (hN : N ≤ 24) (hv : dc_g N v gv) (e9 : a9 0 = 0) (e9' : ∀ j, j < N → j ≠ 0 → a9 j = -1)
    (hK : ∀ o : Int32, ((o = 1 ∧ (w = 0 ∨ w = v)) ∨ (o = 0 ∧ w ≠ 0 ∧ w ≠ v)) → wL_lawOf_221 post mc ms v w i gv gw made 0 o kc ks (nI N) ec re 1 qu fa a1 a2 a3 a4 a5 a6 a7 a8 a9 a10 a11 a12 a13 a14 a15 a16 a17 a18 a19 a20 a21 a22 a23 a24) :
    wL_lawOf_158 post mc ms v w i gv gw made 0 1 1 kc ks (nI N) ec re 1 qu fa a1 a2 a3 a4 a5 a6 a7 a8 a9 a10 a11 a12 a13 a14 a15 a16 a17 a18 a19 a20 a21 a22 a23 a24 := by
  refine br_t rfl ?_
  rcases hv with ⟨g, hx⟩ | ⟨g, V, hV, ev⟩
  · subst g
    exact br_t rfl (dc_192 (fun P h => dc_imm_m hN (Or.inl ⟨rfl, hx⟩) h) hK)
  · subst g
    subst ev
    refine br_f dc_1n0 ?_
    by_cases hV0 : V = 0
    · subst hV0
      exact br_t rfl (dc_192 (fun P h => dc_imm_3 h2 hN e9 h) hK)
    · exact br_f (nI_ne0 (by omega) (by omega)) (br_t rfl (dc_192 (fun P h => dc_imm_2 hN hV (e9' V hV hV0) h) hK))
theorem dc_158_1 (h2 : 2 ≤ N) (hN : N ≤ 24) {V : Nat} (hV : V < N) (hV0 : V ≠ 0) (e9 : a9 V = 1) (e17 : a17 V = 0)
    (hK : ∀ o : Int32, ((o = 1 ∧ (w = 0 ∨ w = nI V)) ∨ (o = 0 ∧ w ≠ 0 ∧ w ≠ nI V)) → wL_lawOf_221 post mc ms (nI V) w i 1 gw made 1 o kc ks (nI N) ec re 1 qu fa a1 a2 a3 a4 a5 a6 a7 a8 a9 a10 a11 a12 a13 a14 a15 a16 a17 a18 a19 a20 a21 a22 a23 a24) :
    wL_lawOf_158 post mc ms (nI V) w i 1 gw made 1 2 2 kc ks (nI N) ec re 1 qu fa a1 a2 a3 a4 a5 a6 a7 a8 a9 a10 a11 a12 a13 a14 a15 a16 a17 a18 a19 a20 a21 a22 a23 a24 :=
  br_t rfl (br_f dc_1n0 (br_f (nI_ne0 (by omega) (by omega)) (br_f dc_1n0 (dc_192 (fun P h => dc_imm_0 hN hV hV0 e9 e17 h) hK))))
/-! reachableCount -/
theorem dc_141_n (hp : post 1 ()) (h2 : 2 ≤ N) (hN : N ≤ 24) (hv : dc_g N v gv) (hw : dc_g N w gw) : wL_lawOf_141 post mc ms v w i gv gw 0 0 kc ks (nI N) 0 re 0 qu fa a1 a2 a3 a4 a5 a6 a7 a8 a9 a10 a11 a12 a13 a14 a15 a16 a17 a18 a19 a20 a21 a22 a23 a24 := by
  unfold wL_lawOf_141 wpX_reachableCount
  exact dc_rf_0 h2 hN (Or.inl rfl) (fun b3 b4 b5 b6 b7 b8 b9 b10 b11 b12 b13 b14 b15 b16 b17 b18 b19 b20 h9 h9' h19 h20 => br_t rfl (dc_158_0 h2 hN hv h9 h9' (fun o ho => dc_221_0 h2 hN hv hw ho h9 h9' h19 h20 (fun z hd => dc_261_n hp hd))))
theorem dc_141_e (hp : post 1 ()) (h2 : 2 ≤ N) (hN : N ≤ 24) (hw : dc_g N w gw) {U V : Nat} (hU : U < N) (hV : V < N) (e1 : a1 0 = nI U) (e2 : a2 0 = nI V) (hc : U ≠ 0 ∨ V = 0) : wL_lawOf_141 post mc ms (nI V) w i 1 gw 1 0 kc ks (nI N) 1 re 0 qu fa a1 a2 a3 a4 a5 a6 a7 a8 a9 a10 a11 a12 a13 a14 a15 a16 a17 a18 a19 a20 a21 a22 a23 a24 := by
  have hv : dc_g N (nI V) 1 := Or.inr ⟨rfl, V, hV, rfl⟩
  unfold wL_lawOf_141 wpX_reachableCount
  exact dc_rf_0 h2 hN (Or.inr ⟨rfl, U, V, hU, hV, e1, e2, hc⟩) (fun b3 b4 b5 b6 b7 b8 b9 b10 b11 b12 b13 b14 b15 b16 b17 b18 b19 b20 h9 h9' h19 h20 => br_t rfl (dc_158_0 h2 hN hv h9 h9' (fun o ho => dc_221_0 h2 hN hv hw ho h9 h9' h19 h20 (fun z hd => dc_261_e hp h2 hN hV e2 h9 h9' hd))))
theorem dc_141_l (hp : post 1 ()) (h2 : 2 ≤ N) (hN : N ≤ 24) (hw : dc_g N w gw) {V : Nat} (hV : V < N) (hV0 : V ≠ 0) (e1 : a1 0 = 0) (e2 : a2 0 = nI V) : wL_lawOf_141 post mc ms (nI V) w i 1 gw 1 1 kc ks (nI N) 1 re 0 qu fa a1 a2 a3 a4 a5 a6 a7 a8 a9 a10 a11 a12 a13 a14 a15 a16 a17 a18 a19 a20 a21 a22 a23 a24 := by
  unfold wL_lawOf_141 wpX_reachableCount
  exact dc_rf_1 h2 hN hV hV0 e1 e2 (fun b3 b4 b5 b6 b7 b8 b9 b10 b11 b12 b13 b14 b15 b16 b17 b18 b19 b20 h5 h6 h9 h9V h9' h17 h19 h19V h20 h20V => br_f dc_1n0 (dc_158_1 h2 hN hV hV0 h9V h17 (fun o ho => dc_221_1 h2 hN hV hV0 hw ho h9 h9V h9' h19 h19V h20 h20V (fun z hd => dc_261_l hp hN hV hV0 e1 e2 h5 h6 h9V h17 h19V h20V hd))))
/-! link -/
theorem dc_99_0 (hp : post 1 ()) (h2 : 2 ≤ N) (hN : N ≤ 24) (hu : dc_g N u gu) (hv : dc_g N v gv) (hw : dc_g N w gw) (hn : gu = 0 ∨ gv = 0) : wL_lawOf_99 post mc ms u v w i gv gw 0 kc ks (nI N) 0 re 0 qu fa a1 a2 a3 a4 a5 a6 a7 a8 a9 a10 a11 a12 a13 a14 a15 a16 a17 a18 a19 a20 a21 a22 a23 a24 := by
  unfold wL_lawOf_99
  exact dc_link_0 hN hu hv hn (br_t rfl (br_t rfl (br_t rfl (dc_141_n hp h2 hN hv hw))))
theorem dc_99_1 (hp : post 1 ()) (h2 : 2 ≤ N) (hN : N ≤ 24) {U V : Nat} (hU : U < N) (hV : V < N) (hw : dc_g N w gw) : wL_lawOf_99 post mc ms (nI U) (nI V) w i 1 gw 1 kc ks (nI N) 0 re 0 qu fa a1 a2 a3 a4 a5 a6 a7 a8 a9 a10 a11 a12 a13 a14 a15 a16 a17 a18 a19 a20 a21 a22 a23 a24 := by
  unfold wL_lawOf_99
  refine dc_link_1 hN (Or.inr ⟨rfl, U, hU, rfl⟩) (Or.inr ⟨rfl, V, hV, rfl⟩) (br_f dc_1n0 (br_t rfl (br_f dc_1n0 ?_)))
  by_cases hU0 : U = 0
  · subst hU0
    refine br_t rfl ?_
    by_cases hV0 : V = 0
    · subst hV0
      exact br_t rfl (dc_141_e (U := 0) (V := 0) hp h2 hN hw hU hV pk_us pk_us (Or.inr rfl))
    · exact br_f (nI_ne0 (by omega) (by omega)) (dc_141_l hp h2 hN hw hV hV0 pk_us pk_us)
  · exact br_f (nI_ne0 (by omega) (by omega)) (dc_141_e hp h2 hN hw hU hV pk_us pk_us (Or.inl hU0))
/-! the guards -/
theorem dc_82 (hp : post 1 ()) (h2 : 2 ≤ N) (hN : N ≤ 24) (hu : dc_g N u gu) (hv : dc_g N v gv) (hw : dc_g N w gw) : wL_lawOf_82 post mc ms u v w i gu gv gw kc ks (nI N) 0 re 0 qu fa a1 a2 a3 a4 a5 a6 a7 a8 a9 a10 a11 a12 a13 a14 a15 a16 a17 a18 a19 a20 a21 a22 a23 a24 := by
  by_cases g1 : gu = 0
  · exact br_t g1 (dc_99_0 hp h2 hN hu hv hw (Or.inl g1))
  refine br_f g1 ?_
  by_cases g2 : gv = 0
  · exact br_t g2 (dc_99_0 hp h2 hN hu hv hw (Or.inr g2))
  refine br_f g2 ?_
  rcases hu with ⟨g, _⟩ | ⟨_, U, hU, eu⟩
  · exact absurd g g1
  rcases hv with ⟨g, _⟩ | ⟨gv1, V, hV, ev⟩
  · exact absurd g g2
  subst eu
  subst ev
  subst gv1
  exact dc_99_1 hp h2 hN hU hV hw
theorem dc_65 (hp : post 1 ()) (h2 : 2 ≤ N) (hN : N ≤ 24) (hu : dc_g N u gu) (hv : dc_g N v gv) : wL_lawOf_65 post mc ms u v w i (nI N) gu gv kc ks (nI N) 0 re 0 qu fa a1 a2 a3 a4 a5 a6 a7 a8 a9 a10 a11 a12 a13 a14 a15 a16 a17 a18 a19 a20 a21 a22 a23 a24 :=
  br_c (fun h => dc_82 hp h2 hN hu hv (Or.inl ⟨rfl, Or.inl h⟩)) (fun h => br_c (fun h' => dc_82 hp h2 hN hu hv (Or.inl ⟨rfl, Or.inr h'⟩)) (fun h' => dc_82 hp h2 hN hu hv (dc_g1 hN h h')))
theorem dc_48 (hp : post 1 ()) (h2 : 2 ≤ N) (hN : N ≤ 24) (hu : dc_g N u gu) : wL_lawOf_48 post mc ms u v w i (nI N) gu kc ks (nI N) 0 re 0 qu fa a1 a2 a3 a4 a5 a6 a7 a8 a9 a10 a11 a12 a13 a14 a15 a16 a17 a18 a19 a20 a21 a22 a23 a24 :=
  br_c (fun h => dc_65 hp h2 hN hu (Or.inl ⟨rfl, Or.inl h⟩)) (fun h => br_c (fun h' => dc_65 hp h2 hN hu (Or.inl ⟨rfl, Or.inr h'⟩)) (fun h' => dc_65 hp h2 hN hu (dc_g1 hN h h')))
theorem dc_33 (hp : post 1 ()) (h2 : 2 ≤ N) (hN : N ≤ 24) : wL_lawOf_33 post mc ms u v w i (nI N) kc ks (nI N) 0 re 0 qu fa a1 a2 a3 a4 a5 a6 a7 a8 a9 a10 a11 a12 a13 a14 a15 a16 a17 a18 a19 a20 a21 a22 a23 a24 :=
  br_c (fun h => dc_48 hp h2 hN (Or.inl ⟨rfl, Or.inl h⟩)) (fun h => br_c (fun h' => dc_48 hp h2 hN (Or.inl ⟨rfl, Or.inr h'⟩)) (fun h' => dc_48 hp h2 hN (dc_g1 hN h h')))
end
end
section
theorem dc_n {p : Int32} (h : 2 ≤ p) (h' : p ≤ 24) : ∃ N : Nat, 2 ≤ N ∧ N ≤ 24 ∧ p = nI N := by
  rw [Int32.le_iff_toInt_le] at h h'
  have h2 : (2 : Int32).toInt = 2 := by decide
  have h24 : (24 : Int32).toInt = 24 := by decide
  rw [h2] at h
  rw [h24] at h'
  have hn : ¬ p < 0 := by
    rw [Int32.lt_iff_toInt_lt]
    have h0 : (0 : Int32).toInt = 0 := by decide
    rw [h0]
    omega
  obtain ⟨j, hj, e⟩ := nI_of hn
  rw [e, nI_toInt hj] at h h'
  exact ⟨j, by omega, by omega, e⟩
theorem dc_cell {post : Int32 → Prop} {L : Nat} {xs : Nat → Int32} {k : Nat} (hL : L ≤ 5) (hk : k < 5) (h : ∀ r, post r) : wpL_cellAt post L xs () (nI k) :=
  pk_le L k (fun _ => h _) (fun z => ⟨pk_in k L z, h _⟩)
theorem dc_init {post : St2 → Prop} {p : Int32} (h0 : ¬ 2 ≤ p → post (2, 0, 0, 0, 0, 0, (fun _ => 0), (fun _ => 0), (fun _ => 0), (fun _ => 0), (fun _ => 0), (fun _ => 0), (fun _ => 0), (fun _ => 0), (fun _ => 0), (fun _ => 0), (fun _ => 0), (fun _ => 0), (fun _ => 0), (fun _ => 0), (fun _ => 0), (fun _ => 0), (fun _ => 0), (fun _ => 0), (fun _ => 0), (fun _ => 0), (fun _ => 0), (fun _ => 0), (fun _ => 0), (fun _ => 0))) (h1 : 2 ≤ p → p ≤ 24 → post (p, 0, 0, 0, 0, 0, (fun _ => 0), (fun _ => 0), (fun _ => 0), (fun _ => 0), (fun _ => 0), (fun _ => 0), (fun _ => 0), (fun _ => 0), (fun _ => 0), (fun _ => 0), (fun _ => 0), (fun _ => 0), (fun _ => 0), (fun _ => 0), (fun _ => 0), (fun _ => 0), (fun _ => 0), (fun _ => 0), (fun _ => 0), (fun _ => 0), (fun _ => 0), (fun _ => 0), (fun _ => 0), (fun _ => 0))) (h2 : 2 ≤ p → ¬ p ≤ 24 → post (24, 0, 0, 0, 0, 0, (fun _ => 0), (fun _ => 0), (fun _ => 0), (fun _ => 0), (fun _ => 0), (fun _ => 0), (fun _ => 0), (fun _ => 0), (fun _ => 0), (fun _ => 0), (fun _ => 0), (fun _ => 0), (fun _ => 0), (fun _ => 0), (fun _ => 0), (fun _ => 0), (fun _ => 0), (fun _ => 0), (fun _ => 0), (fun _ => 0), (fun _ => 0), (fun _ => 0), (fun _ => 0), (fun _ => 0))) : wpX_init post 24 721 (0, 0, 0, 0, 0, 0) p :=
  And.intro (by decide) ⟨by decide, by decide, by decide, by decide, by decide, by decide, by decide, by decide, by decide, by decide, by decide, by decide, by decide, by decide, by decide, by decide, by decide, by decide, by decide, by decide, by decide, by decide, by decide, by decide, by decide, by decide, by decide, by decide, by decide, by decide, by decide, by decide, by decide, by decide, by decide, by decide, by decide, by decide, by decide, by decide, by decide, by decide, by decide, by decide, by decide, by decide, by decide, br_c (fun h => br_c (fun h' => h1 h h') (fun h' => h2 h h')) (fun h => br_t (by decide) (h0 h))⟩
theorem dc_lawOf {post : Int32 → St0 → Prop} (hp : post 1 ()) {p u v w i : Int32} : wpL_lawOf post 25 751 () p u v w i := by
  refine And.intro (by decide) ⟨by decide, 24, 721, by decide, by decide, dc_init (fun h => ?_) (fun h h' => ?_) (fun h h' => ?_)⟩
  · exact br_f h (br_t (by decide) (dc_33 (N := 2) hp (by omega) (by omega)))
  · obtain ⟨N, h2, hN, e⟩ := dc_n h h'
    subst e
    exact br_t h (br_t h' (dc_33 hp h2 hN))
  · exact br_t h (br_f h' (dc_33 (N := 24) hp (by omega) (by omega)))
theorem i_vc (xs : Nat → Int32) (L : Nat) (hL : L ≤ 5) : wpL_law (fun r => r = 1) L xs :=
  dc_cell (k := 0) hL (by omega) (fun r1 => dc_cell (k := 1) hL (by omega) (fun r2 => dc_cell (k := 2) hL (by omega) (fun r3 => dc_cell (k := 3) hL (by omega) (fun r4 => dc_cell (k := 4) hL (by omega) (fun r5 => ⟨25, 751, by decide, by decide, dc_lawOf rfl⟩)))))
end
