section
/-! walk, localFrom, and the looks -/
theorem zr_b : ∀ n, n < 128 → (nI n).toInt8.toInt32 = nI n := by decide +kernel
theorem zr_ne {a b : Nat} (ha : a < 100) (hb : b < 100) (h : a ≠ b) : ¬ nI a = nI b := fun z => h ((nI_eq (by omega) (by omega)).mp z)
theorem zr_wk_stop {post : Int32 → Prop} {sz mk ht sd : Int32} {a1 a2 a3 a4 a5 a6 a7 a8 a9 a10 a11 a12 a13 a14 a15 a16 a17 a18 a19 a20 : Nat → Int32} {n c k : Nat} (hc : c < 40) (hk : k < 100) (h : a1 c = 1) (hp : post (nI c)) :
    wX_walk_4 post sz mk ht sd a1 a2 a3 a4 a5 a6 a7 a8 a9 a10 a11 a12 a13 a14 a15 a16 a17 a18 a19 a20 (n + 1) (nI c) (nI k) := by
  have e : (nI c).toNatClampNeg = c := nI_clamp (by omega)
  have g : a1 (nI c).toNatClampNeg < 3 := by rw [e, h]; decide
  exact pk_le 40 k (fun _ => hp) (fun _ => ⟨pk_in c 40 hc, br_t g hp⟩)
theorem zr_wk_loop {post : Int32 → Prop} {sz mk ht sd : Int32} {a1 a2 a3 a4 a5 a6 a7 a8 a9 a10 a11 a12 a13 a14 a15 a16 a17 a18 a19 a20 : Nat → Int32} {n c k d : Nat} (hc : c < 40) (hk : k < 40) (h : a1 c = 3) (h5 : a5 c = nI d) (hp : wX_walk_4 post sz mk ht sd a1 a2 a3 a4 a5 a6 a7 a8 a9 a10 a11 a12 a13 a14 a15 a16 a17 a18 a19 a20 n (nI d) (nI (k + 1))) :
    wX_walk_4 post sz mk ht sd a1 a2 a3 a4 a5 a6 a7 a8 a9 a10 a11 a12 a13 a14 a15 a16 a17 a18 a19 a20 (n + 1) (nI c) (nI k) := by
  have e : (nI c).toNatClampNeg = c := nI_clamp (by omega)
  have g : ¬ a1 (nI c).toNatClampNeg < 3 := by rw [e, h]; decide
  have g2 : a1 (nI c).toNatClampNeg = 3 := by rw [e, h]
  have g5 : a5 (nI c).toNatClampNeg = nI d := by rw [e, h5]
  exact pk_le 40 k (fun z => absurd z (by omega)) (fun _ => ⟨pk_in c 40 hc, br_f g ⟨pk_in c 40 hc, br_t g2 ⟨pk_in c 40 hc, nm_r g5 (nm_r (nI_1 k) hp)⟩⟩⟩)
theorem zr_wk_again {post : Int32 → Prop} {sz mk ht sd : Int32} {a1 a2 a3 a4 a5 a6 a7 a8 a9 a10 a11 a12 a13 a14 a15 a16 a17 a18 a19 a20 : Nat → Int32} {n c k d : Nat} (hc : c < 20) (hk : k < 40) (h : a1 c = 4) (h7 : a7 c = nI d) (hp : wX_walk_4 post sz mk ht sd a1 a2 a3 a4 a5 a6 a7 a8 a9 a10 a11 a12 a13 a14 a15 a16 a17 a18 a19 a20 n (nI d) (nI (k + 1))) :
    wX_walk_4 post sz mk ht sd a1 a2 a3 a4 a5 a6 a7 a8 a9 a10 a11 a12 a13 a14 a15 a16 a17 a18 a19 a20 (n + 1) (nI c) (nI k) := by
  have e : (nI c).toNatClampNeg = c := nI_clamp (by omega)
  have g : ¬ a1 (nI c).toNatClampNeg < 3 := by rw [e, h]; decide
  have g2 : ¬ a1 (nI c).toNatClampNeg = 3 := by rw [e, h]; decide
  have g7 : a7 (nI c).toNatClampNeg = nI d := by rw [e, h7]
  exact pk_le 40 k (fun z => absurd z (by omega)) (fun _ => ⟨pk_in c 40 (by omega), br_f g ⟨pk_in c 40 (by omega), br_f g2 ⟨pk_in c 20 hc, nm_r g7 (nm_r (nI_1 k) hp)⟩⟩⟩)
/-- the terms: e = 1 or 2 is the place of message(p, q) -/
def zr_T (e p q r l m : Nat) (sz : Int32) (a1 a2 a3 a4 a5 a7 : Nat → Int32) : Prop :=
  (e = 1 ∨ e = 2) ∧ sz = nI (e + 2) ∧ a1 0 = 4 ∧ a7 0 = nI (e + 1) ∧ a1 (e + 1) = 3 ∧ a5 (e + 1) = nI e ∧ a1 e = 1 ∧ a2 e = nI p ∧ a3 e = nI q ∧ a4 e = nI l ∧ a5 e = nI (e - 1) ∧
  (e = 2 → a1 1 = 1 ∧ a2 1 = nI q ∧ a3 1 = nI r ∧ a4 1 = nI m ∧ a5 1 = nI 0)
theorem zr_walk_at {post : Int32 → Prop} {sz mk ht sd : Int32} {a1 a2 a3 a4 a5 a6 a7 a8 a9 a10 a11 a12 a13 a14 a15 a16 a17 a18 a19 a20 : Nat → Int32} {c : Nat} (hc : c < 40) (h : a1 c = 1) (hp : post (nI c)) : wpX_walk post (sz, mk, ht, sd, a1, a2, a3, a4, a5, a6, a7, a8, a9, a10, a11, a12, a13, a14, a15, a16, a17, a18, a19, a20) (nI c) :=
  ⟨1, zr_wk_stop (k := 0) hc (by omega) h hp⟩
theorem zr_walk_l {post : Int32 → Prop} {sz mk ht sd : Int32} {a1 a2 a3 a4 a5 a6 a7 a8 a9 a10 a11 a12 a13 a14 a15 a16 a17 a18 a19 a20 : Nat → Int32} {e p q r l m : Nat} (h : zr_T e p q r l m sz a1 a2 a3 a4 a5 a7) (hp : post (nI e)) : wpX_walk post (sz, mk, ht, sd, a1, a2, a3, a4, a5, a6, a7, a8, a9, a10, a11, a12, a13, a14, a15, a16, a17, a18, a19, a20) (nI (e + 1)) := by
  obtain ⟨he, _, _, _, h3, h5, h1, _⟩ := h
  exact ⟨2, zr_wk_loop (k := 0) (by omega) (by omega) h3 h5 (zr_wk_stop (by omega) (by omega) h1 hp)⟩
theorem zr_walk_0 {post : Int32 → Prop} {sz mk ht sd : Int32} {a1 a2 a3 a4 a5 a6 a7 a8 a9 a10 a11 a12 a13 a14 a15 a16 a17 a18 a19 a20 : Nat → Int32} {e p q r l m : Nat} (h : zr_T e p q r l m sz a1 a2 a3 a4 a5 a7) (hp : post (nI e)) : wpX_walk post (sz, mk, ht, sd, a1, a2, a3, a4, a5, a6, a7, a8, a9, a10, a11, a12, a13, a14, a15, a16, a17, a18, a19, a20) (nI 0) := by
  obtain ⟨he, _, h4, h7, h3, h5, h1, _⟩ := h
  exact ⟨3, zr_wk_again (k := 0) (by omega) (by omega) h4 h7 (zr_wk_loop (by omega) (by omega) h3 h5 (zr_wk_stop (by omega) (by omega) h1 hp))⟩
theorem zr_lo_hit {post : Int32 → Prop} {sz mk ht sd : Int32} {a1 a2 a3 a4 a5 a6 a7 a8 a9 a10 a11 a12 a13 a14 a15 a16 a17 a18 a19 a20 : Nat → Int32} {n c k ro : Nat} (hc : c < 40) (hk : k ≤ 20) (h : a1 c = 1) (hh : a2 c = nI ro ∨ a3 c = nI ro) (hp : post (nI c)) :
    wX_localFrom_9 post (nI ro) sz mk ht sd a1 a2 a3 a4 a5 a6 a7 a8 a9 a10 a11 a12 a13 a14 a15 a16 a17 a18 a19 a20 (n + 1) (nI c) (nI k) := by
  have e : (nI c).toNatClampNeg = c := nI_clamp (by omega)
  have g : a1 (nI c).toNatClampNeg = 1 := by rw [e, h]
  refine pk_lt 20 k (fun z => absurd z (by omega)) (fun _ => ⟨pk_in c 40 hc, br_t g ⟨pk_in c 40 hc, ?_⟩⟩)
  refine br_c (fun _ => hp) (fun z => ⟨pk_in c 40 hc, br_t ?_ hp⟩)
  rw [e] at z ⊢
  exact hh.resolve_left z
theorem zr_lo_miss {post : Int32 → Prop} {sz mk ht sd : Int32} {a1 a2 a3 a4 a5 a6 a7 a8 a9 a10 a11 a12 a13 a14 a15 a16 a17 a18 a19 a20 : Nat → Int32} {n c k ro d : Nat} (hc : c < 40) (hk : k ≤ 20) (h : a1 c = 1) (h2 : ¬ a2 c = nI ro) (h3 : ¬ a3 c = nI ro)
    (hw : ∀ P : Int32 → Prop, P (nI d) → wpX_walk P (sz, mk, ht, sd, a1, a2, a3, a4, a5, a6, a7, a8, a9, a10, a11, a12, a13, a14, a15, a16, a17, a18, a19, a20) (a5 c)) (hp : wX_localFrom_9 post (nI ro) sz mk ht sd a1 a2 a3 a4 a5 a6 a7 a8 a9 a10 a11 a12 a13 a14 a15 a16 a17 a18 a19 a20 n (nI d) (nI (k + 1))) :
    wX_localFrom_9 post (nI ro) sz mk ht sd a1 a2 a3 a4 a5 a6 a7 a8 a9 a10 a11 a12 a13 a14 a15 a16 a17 a18 a19 a20 (n + 1) (nI c) (nI k) := by
  have e : (nI c).toNatClampNeg = c := nI_clamp (by omega)
  have g : a1 (nI c).toNatClampNeg = 1 := by rw [e, h]
  have g2 : ¬ a2 (nI c).toNatClampNeg = nI ro := by rw [e]; exact h2
  have g3 : ¬ a3 (nI c).toNatClampNeg = nI ro := by rw [e]; exact h3
  refine pk_lt 20 k (fun z => absurd z (by omega)) (fun _ => ⟨pk_in c 40 hc, br_t g ⟨pk_in c 40 hc, br_f g2 ⟨pk_in c 40 hc, br_f g3 ⟨pk_in c 40 hc, ?_⟩⟩⟩⟩)
  rw [e]
  exact hw _ (nm_r (nI_1 k) hp)
theorem zr_lf_hit {post : Int32 → Prop} {sz mk ht sd : Int32} {a1 a2 a3 a4 a5 a6 a7 a8 a9 a10 a11 a12 a13 a14 a15 a16 a17 a18 a19 a20 : Nat → Int32} {c ro : Nat} {x : Int32} (hw : ∀ P : Int32 → Prop, P (nI c) → wpX_walk P (sz, mk, ht, sd, a1, a2, a3, a4, a5, a6, a7, a8, a9, a10, a11, a12, a13, a14, a15, a16, a17, a18, a19, a20) x) (hc : c < 40) (h : a1 c = 1) (hh : a2 c = nI ro ∨ a3 c = nI ro) (hp : post (nI c)) :
    wpX_localFrom post (sz, mk, ht, sd, a1, a2, a3, a4, a5, a6, a7, a8, a9, a10, a11, a12, a13, a14, a15, a16, a17, a18, a19, a20) (nI ro) x := hw _ ⟨1, zr_lo_hit (k := 0) hc (by omega) h hh hp⟩
theorem zr_lf_hop {post : Int32 → Prop} {sz mk ht sd : Int32} {a1 a2 a3 a4 a5 a6 a7 a8 a9 a10 a11 a12 a13 a14 a15 a16 a17 a18 a19 a20 : Nat → Int32} {c d ro : Nat} {x : Int32} (hw : ∀ P : Int32 → Prop, P (nI c) → wpX_walk P (sz, mk, ht, sd, a1, a2, a3, a4, a5, a6, a7, a8, a9, a10, a11, a12, a13, a14, a15, a16, a17, a18, a19, a20) x) (hc : c < 40) (h : a1 c = 1) (h2 : ¬ a2 c = nI ro) (h3 : ¬ a3 c = nI ro)
    (hw' : ∀ P : Int32 → Prop, P (nI d) → wpX_walk P (sz, mk, ht, sd, a1, a2, a3, a4, a5, a6, a7, a8, a9, a10, a11, a12, a13, a14, a15, a16, a17, a18, a19, a20) (a5 c)) (hd : d < 40) (h' : a1 d = 1) (hh : a2 d = nI ro ∨ a3 d = nI ro) (hp : post (nI d)) :
    wpX_localFrom post (sz, mk, ht, sd, a1, a2, a3, a4, a5, a6, a7, a8, a9, a10, a11, a12, a13, a14, a15, a16, a17, a18, a19, a20) (nI ro) x := hw _ ⟨2, zr_lo_miss (k := 0) hc (by omega) h h2 h3 hw' (zr_lo_hit hd (by omega) h' hh hp)⟩
theorem zr_lf_round {post : Int32 → Prop} {sz mk ht sd : Int32} {a1 a2 a3 a4 a5 a6 a7 a8 a9 a10 a11 a12 a13 a14 a15 a16 a17 a18 a19 a20 : Nat → Int32} {c ro : Nat} {x : Int32} (hw : ∀ P : Int32 → Prop, P (nI c) → wpX_walk P (sz, mk, ht, sd, a1, a2, a3, a4, a5, a6, a7, a8, a9, a10, a11, a12, a13, a14, a15, a16, a17, a18, a19, a20) x) (hc : c < 40) (h : a1 c = 1) (h2 : ¬ a2 c = nI ro) (h3 : ¬ a3 c = nI ro)
    (hw' : ∀ P : Int32 → Prop, P (nI c) → wpX_walk P (sz, mk, ht, sd, a1, a2, a3, a4, a5, a6, a7, a8, a9, a10, a11, a12, a13, a14, a15, a16, a17, a18, a19, a20) (a5 c)) (hp : post (-2)) :
    wpX_localFrom post (sz, mk, ht, sd, a1, a2, a3, a4, a5, a6, a7, a8, a9, a10, a11, a12, a13, a14, a15, a16, a17, a18, a19, a20) (nI ro) x := by
  have e : (nI c).toNatClampNeg = c := nI_clamp (by omega)
  have g : a1 (nI c).toNatClampNeg = 1 := by rw [e, h]
  have main : ∀ d k, k + d = 21 → wX_localFrom_9 post (nI ro) sz mk ht sd a1 a2 a3 a4 a5 a6 a7 a8 a9 a10 a11 a12 a13 a14 a15 a16 a17 a18 a19 a20 (d + 1) (nI c) (nI k) := by
    intro d
    induction d with
    | zero =>
      intro k hk
      refine pk_lt 20 k (fun _ => ⟨pk_in c 40 hc, br_f (by rw [g]; decide) ⟨pk_in c 40 hc, br_f (by rw [g]; decide) hp⟩⟩) (fun z => absurd z (by omega))
    | succ d ih =>
      intro k hk
      exact zr_lo_miss hc (by omega) h h2 h3 hw' (ih (k + 1) (by omega))
  exact hw _ ⟨22, main 21 0 rfl⟩
end
section
/-! looking: badRole, sends, partnerOf, queueOf, state, partner, onWay, got -/
theorem zr_bad {post : Int32 → Prop} {sz mk ht sd : Int32} {a1 a2 a3 a4 a5 a6 a7 a8 a9 a10 a11 a12 a13 a14 a15 a16 a17 a18 a19 a20 : Nat → Int32} {ro : Nat} (hr : ro < 3) (h : post 0) : wpX_badRole post (sz, mk, ht, sd, a1, a2, a3, a4, a5, a6, a7, a8, a9, a10, a11, a12, a13, a14, a15, a16, a17, a18, a19, a20) (nI ro) :=
  br_f (nI_pos (by omega)) (br_t (nI_lt (b := 3) hr (by decide)) h)
theorem zr_qx (a b : Nat) : 3 * nI a + nI b = nI (3 * a + b) := by
  rw [show (3 : Int32) = nI 3 from rfl, pk_mul, nI_add]
theorem zr_que {post : Int32 → Prop} {sz mk ht sd : Int32} {a1 a2 a3 a4 a5 a6 a7 a8 a9 a10 a11 a12 a13 a14 a15 a16 a17 a18 a19 a20 : Nat → Int32} {a b : Nat} (h : post (nI (3 * a + b))) : wpX_queueOf post (sz, mk, ht, sd, a1, a2, a3, a4, a5, a6, a7, a8, a9, a10, a11, a12, a13, a14, a15, a16, a17, a18, a19, a20) (nI a) (nI b) := by
  show post (3 * nI a + nI b)
  rw [zr_qx]
  exact h
/-- role ro is at the message n, from s to d -/
def zr_at (n s d : Nat) (a1 a2 a3 : Nat → Int32) : Prop := n < 40 ∧ s < 3 ∧ d < 3 ∧ s ≠ d ∧ a1 n = 1 ∧ a2 n = nI s ∧ a3 n = nI d
theorem zr_sends_1 {post : Int32 → Prop} {sz mk ht sd : Int32} {a1 a2 a3 a4 a5 a6 a7 a8 a9 a10 a11 a12 a13 a14 a15 a16 a17 a18 a19 a20 : Nat → Int32} {n ro d : Nat} (h : zr_at n ro d a1 a2 a3) (h11 : a11 ro = nI n) (hp : post 1) : wpX_sends post (sz, mk, ht, sd, a1, a2, a3, a4, a5, a6, a7, a8, a9, a10, a11, a12, a13, a14, a15, a16, a17, a18, a19, a20) (nI ro) := by
  obtain ⟨hn, hs, hd, _, h1, h2, h3⟩ := h
  have e : (nI ro).toNatClampNeg = ro := nI_clamp (by omega)
  have f : (nI n).toNatClampNeg = n := nI_clamp (by omega)
  exact ⟨pk_in ro 3 hs, nm_r (by rw [e, h11]) (br_f (nI_pos (by omega)) ⟨pk_in n 40 hn, br_t (by rw [f, h2]) hp⟩)⟩
theorem zr_sends_0 {post : Int32 → Prop} {sz mk ht sd : Int32} {a1 a2 a3 a4 a5 a6 a7 a8 a9 a10 a11 a12 a13 a14 a15 a16 a17 a18 a19 a20 : Nat → Int32} {n s ro : Nat} (h : zr_at n s ro a1 a2 a3) (h11 : a11 ro = nI n) (hp : post 0) : wpX_sends post (sz, mk, ht, sd, a1, a2, a3, a4, a5, a6, a7, a8, a9, a10, a11, a12, a13, a14, a15, a16, a17, a18, a19, a20) (nI ro) := by
  obtain ⟨hn, hs, hd, hne, h1, h2, h3⟩ := h
  have e : (nI ro).toNatClampNeg = ro := nI_clamp (by omega)
  have f : (nI n).toNatClampNeg = n := nI_clamp (by omega)
  exact ⟨pk_in ro 3 hd, nm_r (by rw [e, h11]) (br_f (nI_pos (by omega)) ⟨pk_in n 40 hn, br_f (by rw [f, h2]; exact zr_ne (by omega) (by omega) hne) hp⟩)⟩
theorem zr_pof_s {post : Int32 → Prop} {sz mk ht sd : Int32} {a1 a2 a3 a4 a5 a6 a7 a8 a9 a10 a11 a12 a13 a14 a15 a16 a17 a18 a19 a20 : Nat → Int32} {n ro d : Nat} (h : zr_at n ro d a1 a2 a3) (h11 : a11 ro = nI n) (hp : post (nI d)) : wpX_partnerOf post (sz, mk, ht, sd, a1, a2, a3, a4, a5, a6, a7, a8, a9, a10, a11, a12, a13, a14, a15, a16, a17, a18, a19, a20) (nI ro) := by
  obtain ⟨hn, hs, hd, hne, h1, h2, h3⟩ := h
  have e : (nI ro).toNatClampNeg = ro := nI_clamp (by omega)
  have f : (nI n).toNatClampNeg = n := nI_clamp (by omega)
  refine ⟨pk_in ro 3 hs, nm_r (by rw [e, h11]) ⟨pk_in n 40 hn, br_t (by rw [f, h2]) ⟨pk_in n 40 hn, br_t (by rw [f, h1]) ⟨pk_in n 40 hn, ?_⟩⟩⟩⟩
  rw [f, h3]
  exact hp
theorem zr_pof_r {post : Int32 → Prop} {sz mk ht sd : Int32} {a1 a2 a3 a4 a5 a6 a7 a8 a9 a10 a11 a12 a13 a14 a15 a16 a17 a18 a19 a20 : Nat → Int32} {n s ro : Nat} (h : zr_at n s ro a1 a2 a3) (h11 : a11 ro = nI n) (hp : post (nI s)) : wpX_partnerOf post (sz, mk, ht, sd, a1, a2, a3, a4, a5, a6, a7, a8, a9, a10, a11, a12, a13, a14, a15, a16, a17, a18, a19, a20) (nI ro) := by
  obtain ⟨hn, hs, hd, hne, h1, h2, h3⟩ := h
  have e : (nI ro).toNatClampNeg = ro := nI_clamp (by omega)
  have f : (nI n).toNatClampNeg = n := nI_clamp (by omega)
  refine ⟨pk_in ro 3 hd, nm_r (by rw [e, h11]) ⟨pk_in n 40 hn, br_f (by rw [f, h2]; exact zr_ne (by omega) (by omega) hne) ⟨pk_in n 40 hn, ?_⟩⟩⟩
  rw [f, h2]
  exact hp
theorem zr_state_s {post : Int32 → Prop} {sz mk ht sd : Int32} {a1 a2 a3 a4 a5 a6 a7 a8 a9 a10 a11 a12 a13 a14 a15 a16 a17 a18 a19 a20 : Nat → Int32} {n ro d k : Nat} (h : zr_at n ro d a1 a2 a3) (h11 : a11 ro = nI n) (h17 : a17 (3 * ro + d) = nI k) (hk : k ≤ 4) (f2 : k = 4 → post 2) (f1 : k < 4 → post 1) :
    wpX_state post (sz, mk, ht, sd, a1, a2, a3, a4, a5, a6, a7, a8, a9, a10, a11, a12, a13, a14, a15, a16, a17, a18, a19, a20) (nI ro) := by
  have h' := h
  obtain ⟨hn, hs, hd, hne, _⟩ := h'
  have e : (nI ro).toNatClampNeg = ro := nI_clamp (by omega)
  have f : (nI (3 * ro + d)).toNatClampNeg = 3 * ro + d := nI_clamp (by omega)
  unfold wpX_state
  refine zr_bad hs (br_t rfl ⟨pk_in ro 3 hs, ?_⟩)
  refine br_t (by rw [e, h11]; exact nI_pos' (by omega)) (zr_pof_s h h11 (zr_sends_1 h h11 (br_f (by decide) (zr_que ⟨pk_in (3 * ro + d) 9 (by omega), ?_⟩))))
  exact pk_le 4 k (fun z => f2 (by omega)) (fun z => f1 z) rfl (by rw [f, h17])
theorem zr_state_r {post : Int32 → Prop} {sz mk ht sd : Int32} {a1 a2 a3 a4 a5 a6 a7 a8 a9 a10 a11 a12 a13 a14 a15 a16 a17 a18 a19 a20 : Nat → Int32} {n s ro k : Nat} (h : zr_at n s ro a1 a2 a3) (h11 : a11 ro = nI n) (h17 : a17 (3 * s + ro) = nI k) (hk : k ≤ 4) (f4 : k = 0 → post 4) (f3 : 0 < k → post 3) :
    wpX_state post (sz, mk, ht, sd, a1, a2, a3, a4, a5, a6, a7, a8, a9, a10, a11, a12, a13, a14, a15, a16, a17, a18, a19, a20) (nI ro) := by
  have h' := h
  obtain ⟨hn, hs, hd, hne, _⟩ := h'
  have e : (nI ro).toNatClampNeg = ro := nI_clamp (by omega)
  have f : (nI (3 * s + ro)).toNatClampNeg = 3 * s + ro := nI_clamp (by omega)
  unfold wpX_state
  refine zr_bad hd (br_t rfl ⟨pk_in ro 3 hd, ?_⟩)
  refine br_t (by rw [e, h11]; exact nI_pos' (by omega)) (zr_pof_r h h11 (zr_sends_0 h h11 (br_t rfl (zr_que ⟨pk_in (3 * s + ro) 9 (by omega), ?_⟩))))
  exact pk_le k 0 (fun z => f4 (by omega)) (fun z => f3 z) (by rw [f, h17]) rfl
theorem zr_state_o {post : Int32 → Prop} {sz mk ht sd : Int32} {a1 a2 a3 a4 a5 a6 a7 a8 a9 a10 a11 a12 a13 a14 a15 a16 a17 a18 a19 a20 : Nat → Int32} {ro : Nat} (hr : ro < 3) (h11 : a11 ro = -2) (hp : post 0) : wpX_state post (sz, mk, ht, sd, a1, a2, a3, a4, a5, a6, a7, a8, a9, a10, a11, a12, a13, a14, a15, a16, a17, a18, a19, a20) (nI ro) := by
  have e : (nI ro).toNatClampNeg = ro := nI_clamp (by omega)
  unfold wpX_state
  exact zr_bad hr (br_t rfl ⟨pk_in ro 3 hr, br_f (by rw [e, h11]; decide) hp⟩)
theorem zr_partner_s {post : Int32 → Prop} {sz mk ht sd : Int32} {a1 a2 a3 a4 a5 a6 a7 a8 a9 a10 a11 a12 a13 a14 a15 a16 a17 a18 a19 a20 : Nat → Int32} {n ro d : Nat} (h : zr_at n ro d a1 a2 a3) (h11 : a11 ro = nI n) (hp : post (nI d)) : wpX_partner post (sz, mk, ht, sd, a1, a2, a3, a4, a5, a6, a7, a8, a9, a10, a11, a12, a13, a14, a15, a16, a17, a18, a19, a20) (nI ro) := by
  have h' := h
  obtain ⟨hn, hs, hd, hne, _⟩ := h'
  have e : (nI ro).toNatClampNeg = ro := nI_clamp (by omega)
  unfold wpX_partner
  exact zr_bad hs (br_t rfl ⟨pk_in ro 3 hs, br_t (by rw [e, h11]; exact nI_pos' (by omega)) (zr_pof_s h h11 hp)⟩)
theorem zr_partner_r {post : Int32 → Prop} {sz mk ht sd : Int32} {a1 a2 a3 a4 a5 a6 a7 a8 a9 a10 a11 a12 a13 a14 a15 a16 a17 a18 a19 a20 : Nat → Int32} {n s ro : Nat} (h : zr_at n s ro a1 a2 a3) (h11 : a11 ro = nI n) (hp : post (nI s)) : wpX_partner post (sz, mk, ht, sd, a1, a2, a3, a4, a5, a6, a7, a8, a9, a10, a11, a12, a13, a14, a15, a16, a17, a18, a19, a20) (nI ro) := by
  have h' := h
  obtain ⟨hn, hs, hd, hne, _⟩ := h'
  have e : (nI ro).toNatClampNeg = ro := nI_clamp (by omega)
  unfold wpX_partner
  exact zr_bad hd (br_t rfl ⟨pk_in ro 3 hd, br_t (by rw [e, h11]; exact nI_pos' (by omega)) (zr_pof_r h h11 hp)⟩)
theorem zr_partner_o {post : Int32 → Prop} {sz mk ht sd : Int32} {a1 a2 a3 a4 a5 a6 a7 a8 a9 a10 a11 a12 a13 a14 a15 a16 a17 a18 a19 a20 : Nat → Int32} {ro : Nat} (hr : ro < 3) (h11 : a11 ro = -2) (hp : post (-4)) : wpX_partner post (sz, mk, ht, sd, a1, a2, a3, a4, a5, a6, a7, a8, a9, a10, a11, a12, a13, a14, a15, a16, a17, a18, a19, a20) (nI ro) := by
  have e : (nI ro).toNatClampNeg = ro := nI_clamp (by omega)
  unfold wpX_partner
  exact zr_bad hr (br_t rfl ⟨pk_in ro 3 hr, br_f (by rw [e, h11]; decide) hp⟩)
theorem zr_onWay {post : Int32 → Prop} {sz mk ht sd : Int32} {a1 a2 a3 a4 a5 a6 a7 a8 a9 a10 a11 a12 a13 a14 a15 a16 a17 a18 a19 a20 : Nat → Int32} {a b : Nat} (ha : a < 3) (hb : b < 3) (hp : post (a17 (3 * a + b))) : wpX_onWay post (sz, mk, ht, sd, a1, a2, a3, a4, a5, a6, a7, a8, a9, a10, a11, a12, a13, a14, a15, a16, a17, a18, a19, a20) (nI a) (nI b) := by
  unfold wpX_onWay
  refine zr_bad ha (br_t rfl (zr_bad hb (br_t rfl ⟨pk_in (3 * a + b) 9 (by omega) (zr_qx a b), ?_⟩)))
  rw [zr_qx, nI_clamp (show 3 * a + b < 2 ^ 31 by omega)]
  exact hp
theorem zr_got {post : Int32 → Prop} {sz mk ht sd : Int32} {a1 a2 a3 a4 a5 a6 a7 a8 a9 a10 a11 a12 a13 a14 a15 a16 a17 a18 a19 a20 : Nat → Int32} {ro : Nat} (hr : ro < 3) (hp : post (a15 ro)) : wpX_got post (sz, mk, ht, sd, a1, a2, a3, a4, a5, a6, a7, a8, a9, a10, a11, a12, a13, a14, a15, a16, a17, a18, a19, a20) (nI ro) := by
  unfold wpX_got
  refine zr_bad hr (br_t rfl ⟨pk_in ro 3 hr, ?_⟩)
  rw [nI_clamp (show ro < 2 ^ 31 by omega)]
  exact hp
end
section
/-! put, take, goOn, send, receive -/
theorem zr_4x (c j : Nat) : 4 * nI c + nI j = nI (4 * c + j) := by
  rw [show (4 : Int32) = nI 4 from rfl, pk_mul, nI_add]
theorem zr_a3 {n : Nat} (h : n < 100) : nI n &&& 3 = nI (n % 4) := pk_andN (by omega) 2 (by decide)
theorem zr_put {post : St2 → Prop} {sz mk ht sd : Int32} {a1 a2 a3 a4 a5 a6 a7 a8 a9 a10 a11 a12 a13 a14 a15 a16 a17 a18 a19 a20 : Nat → Int32} {c h k l : Nat} {v : Int32} (hc : c < 9) (hh : h < 4) (hk : k < 4) (hl : l < 100) (h16 : a16 c = nI h) (h17 : a17 c = nI k)
    (hp : post (sz, mk, ht, sd + 1, a1, a2, a3, a4, a5, a6, a7, a8, a9, a10, a11, a12, a13, a14, a15, a16, upd a17 c (nI (k + 1)), upd a18 (4 * c + (h + k) % 4) (nI l), upd a19 (4 * c + (h + k) % 4) v, a20)) :
    wpX_put post (sz, mk, ht, sd, a1, a2, a3, a4, a5, a6, a7, a8, a9, a10, a11, a12, a13, a14, a15, a16, a17, a18, a19, a20) (nI c) (nI l) v := by
  have e : (nI c).toNatClampNeg = c := nI_clamp (by omega)
  have hx : 4 * nI c + ((a16 (nI c).toNatClampNeg + a17 (nI c).toNatClampNeg) &&& 3) = nI (4 * c + (h + k) % 4) := by
    rw [e, h16, h17, nI_add, zr_a3 (by omega), zr_4x]
  have f : (nI (4 * c + (h + k) % 4)).toNatClampNeg = 4 * c + (h + k) % 4 := nI_clamp (by omega)
  have g : upd a17 (nI c).toNatClampNeg ((a17 (nI c).toNatClampNeg + 1).toInt8.toInt32) = upd a17 c (nI (k + 1)) := by
    rw [e, h17, nI_1, zr_b _ (by omega)]
  refine ⟨pk_in c 9 hc, pk_in c 9 hc, nm_r hx ⟨pk_in (4 * c + (h + k) % 4) 36 (by omega), nm_r (by rw [f, zr_b _ (by omega)]) ⟨pk_in (4 * c + (h + k) % 4) 36 (by omega), nm_r (by rw [f]) ⟨pk_in c 9 hc, pk_in c 9 hc, nm_r g (nm_e hp)⟩⟩⟩⟩
theorem zr_goOn {post : St2 → Prop} {sz mk ht sd : Int32} {a1 a2 a3 a4 a5 a6 a7 a8 a9 a10 a11 a12 a13 a14 a15 a16 a17 a18 a19 a20 : Nat → Int32} {ro d : Nat} {x : Int32} (hr : ro < 3) (hd : d < 100) (hl : ∀ P : Int32 → Prop, P (nI d) → wpX_localFrom P (sz, mk, ht, sd, a1, a2, a3, a4, a5, a6, a7, a8, a9, a10, a11, a12, a13, a14, a15, a16, a17, a18, a19, a20) (nI ro) x)
    (hp : post (sz, mk, ht, sd, a1, a2, a3, a4, a5, a6, a7, a8, a9, a10, upd a11 ro (nI d), a12, a13, a14, a15, a16, a17, a18, a19, a20)) : wpX_goOn post (sz, mk, ht, sd, a1, a2, a3, a4, a5, a6, a7, a8, a9, a10, a11, a12, a13, a14, a15, a16, a17, a18, a19, a20) (nI ro) x := by
  have e : (nI ro).toNatClampNeg = ro := nI_clamp (by omega)
  unfold wpX_goOn
  exact hl _ ⟨pk_in ro 3 hr, nm_r (by rw [e, zr_b _ (by omega)]) hp⟩
theorem zr_sendM {post : Int32 → St2 → Prop} {sz mk ht sd : Int32} {a1 a2 a3 a4 a5 a6 a7 a8 a9 a10 a11 a12 a13 a14 a15 a16 a17 a18 a19 a20 : Nat → Int32} {n ro c h k l d : Nat} {v : Int32} (hr : ro < 3) (hn : n < 40) (h11 : a11 ro = nI n) (h4 : a4 n = nI l)
    (hc : c < 9) (hh : h < 4) (hk : k < 4) (hl : l < 100) (h16 : a16 c = nI h) (h17 : a17 c = nI k) (hd : d < 100)
    (hlf : ∀ P : Int32 → Prop, P (nI d) → wpX_localFrom P (sz, mk, ht, sd + 1, a1, a2, a3, a4, a5, a6, a7, a8, a9, a10, a11, a12, a13, a14, a15, a16, upd a17 c (nI (k + 1)), upd a18 (4 * c + (h + k) % 4) (nI l), upd a19 (4 * c + (h + k) % 4) v, a20) (nI ro) (a5 n))
    (hp : post (nI l) (sz, mk, ht, sd + 1, a1, a2, a3, a4, a5, a6, a7, a8, a9, a10, upd a11 ro (nI d), a12, a13, a14, a15, a16, upd a17 c (nI (k + 1)), upd a18 (4 * c + (h + k) % 4) (nI l), upd a19 (4 * c + (h + k) % 4) v, a20)) :
    wpX_sendMessage post (sz, mk, ht, sd, a1, a2, a3, a4, a5, a6, a7, a8, a9, a10, a11, a12, a13, a14, a15, a16, a17, a18, a19, a20) (nI ro) (nI c) v := by
  have e : (nI ro).toNatClampNeg = ro := nI_clamp (by omega)
  have f : (nI n).toNatClampNeg = n := nI_clamp (by omega)
  refine ⟨pk_in ro 3 hr, nm_r (by rw [e, h11]) ⟨pk_in n 40 hn, nm_r (by rw [f, h4]) (zr_put hc hh hk hl h16 h17 ⟨pk_in n 40 hn, ?_⟩)⟩⟩
  rw [f]
  exact zr_goOn hr hd hlf hp
theorem zr_send_full {post : Int32 → St2 → Prop} {sz mk ht sd : Int32} {a1 a2 a3 a4 a5 a6 a7 a8 a9 a10 a11 a12 a13 a14 a15 a16 a17 a18 a19 a20 : Nat → Int32} {n ro d : Nat} {x v : Int32} (h : zr_at n ro d a1 a2 a3) (h11 : a11 ro = nI n) (h17 : a17 (3 * ro + d) = nI 4) (hp : post (-4) (sz, mk, ht, sd, a1, a2, a3, a4, a5, a6, a7, a8, a9, a10, a11, a12, a13, a14, a15, a16, a17, a18, a19, a20)) :
    wpX_send post (sz, mk, ht, sd, a1, a2, a3, a4, a5, a6, a7, a8, a9, a10, a11, a12, a13, a14, a15, a16, a17, a18, a19, a20) (nI ro) x v := by
  have h' := h
  obtain ⟨hn, hs, hd, hne, _⟩ := h'
  have f : (nI (3 * ro + d)).toNatClampNeg = 3 * ro + d := nI_clamp (by omega)
  unfold wpX_send
  exact zr_bad hs (br_t rfl (zr_sends_1 h h11 (br_f (by decide) (zr_pof_s h h11 (zr_que ⟨pk_in (3 * ro + d) 9 (by omega), br_t (by rw [f, h17]; rfl) hp⟩)))))
theorem zr_send_not {post : Int32 → St2 → Prop} {sz mk ht sd : Int32} {a1 a2 a3 a4 a5 a6 a7 a8 a9 a10 a11 a12 a13 a14 a15 a16 a17 a18 a19 a20 : Nat → Int32} {n s ro : Nat} {x v : Int32} (h : zr_at n s ro a1 a2 a3) (h11 : a11 ro = nI n) (hp : post (-4) (sz, mk, ht, sd, a1, a2, a3, a4, a5, a6, a7, a8, a9, a10, a11, a12, a13, a14, a15, a16, a17, a18, a19, a20)) :
    wpX_send post (sz, mk, ht, sd, a1, a2, a3, a4, a5, a6, a7, a8, a9, a10, a11, a12, a13, a14, a15, a16, a17, a18, a19, a20) (nI ro) x v := by
  have h' := h
  obtain ⟨hn, hs, hd, hne, _⟩ := h'
  unfold wpX_send
  exact zr_bad hd (br_t rfl (zr_sends_0 h h11 (br_t rfl hp)))
theorem zr_send_ok {post : Int32 → St2 → Prop} {sz mk ht sd : Int32} {a1 a2 a3 a4 a5 a6 a7 a8 a9 a10 a11 a12 a13 a14 a15 a16 a17 a18 a19 a20 : Nat → Int32} {n ro to h k l d : Nat} {x v : Int32} (ha : zr_at n ro to a1 a2 a3) (h11 : a11 ro = nI n) (h4 : a4 n = nI l)
    (hh : h < 4) (hk : k < 4) (hl : l < 100) (h16 : a16 (3 * ro + to) = nI h) (h17 : a17 (3 * ro + to) = nI k) (hd : d < 100)
    (hlf : ∀ P : Int32 → Prop, P (nI d) → wpX_localFrom P (sz, mk, ht, sd + 1, a1, a2, a3, a4, a5, a6, a7, a8, a9, a10, a11, a12, a13, a14, a15, a16, upd a17 (3 * ro + to) (nI (k + 1)), upd a18 (4 * (3 * ro + to) + (h + k) % 4) (nI l), upd a19 (4 * (3 * ro + to) + (h + k) % 4) v, a20) (nI ro) (a5 n))
    (hp : post (nI l) (sz, mk, ht, sd + 1, a1, a2, a3, a4, a5, a6, a7, a8, a9, a10, upd a11 ro (nI d), a12, a13, a14, a15, a16, upd a17 (3 * ro + to) (nI (k + 1)), upd a18 (4 * (3 * ro + to) + (h + k) % 4) (nI l), upd a19 (4 * (3 * ro + to) + (h + k) % 4) v, a20)) :
    wpX_send post (sz, mk, ht, sd, a1, a2, a3, a4, a5, a6, a7, a8, a9, a10, a11, a12, a13, a14, a15, a16, a17, a18, a19, a20) (nI ro) x v := by
  have h' := ha
  obtain ⟨hn, hs, hd', hne, h1, _⟩ := h'
  have e : (nI ro).toNatClampNeg = ro := nI_clamp (by omega)
  have g : (nI n).toNatClampNeg = n := nI_clamp (by omega)
  have f : (nI (3 * ro + to)).toNatClampNeg = 3 * ro + to := nI_clamp (by omega)
  have n4 : ¬ a17 (nI (3 * ro + to)).toNatClampNeg = 4 := by rw [f, h17]; exact zr_ne (b := 4) (by omega) (by omega) (by omega)
  have i11 : a11 (nI ro).toNatClampNeg = nI n := by rw [e, h11]
  have i1 : a1 (a11 (nI ro).toNatClampNeg).toNatClampNeg = 1 := by rw [i11, g, h1]
  unfold wpX_send
  exact zr_bad hs (br_t rfl (zr_sends_1 ha h11 (br_f (by decide) (zr_pof_s ha h11 (zr_que ⟨pk_in (3 * ro + to) 9 (by omega), br_f n4 ⟨pk_in ro 3 hs, pk_in n 40 hn i11, br_t i1 (zr_sendM hs hn h11 h4 (by omega) hh hk hl h16 h17 hd hlf hp)⟩⟩)))))
theorem zr_take {post : Int32 → St2 → Prop} {sz mk ht sd : Int32} {a1 a2 a3 a4 a5 a6 a7 a8 a9 a10 a11 a12 a13 a14 a15 a16 a17 a18 a19 a20 : Nat → Int32} {c h k ro : Nat} (hc : c < 9) (hr : ro < 3) (hh : h < 4) (hk : k < 4) (h16 : a16 c = nI h) (h17 : a17 c = nI (k + 1))
    (hp : post (a18 (4 * c + h)) (sz, mk, ht, sd, a1, a2, a3, a4, a5, a6, a7, a8, a9, a10, a11, a12, a13, a14, upd a15 ro (a19 (4 * c + h)), upd a16 c (nI ((h + 1) % 4)), upd a17 c (nI k), a18, a19, a20)) :
    wpX_take post (sz, mk, ht, sd, a1, a2, a3, a4, a5, a6, a7, a8, a9, a10, a11, a12, a13, a14, a15, a16, a17, a18, a19, a20) (nI c) (nI ro) := by
  have e : (nI c).toNatClampNeg = c := nI_clamp (by omega)
  have e2 : (nI ro).toNatClampNeg = ro := nI_clamp (by omega)
  have hx : 4 * nI c + a16 (nI c).toNatClampNeg = nI (4 * c + h) := by rw [e, h16, zr_4x]
  have f : (nI (4 * c + h)).toNatClampNeg = 4 * c + h := nI_clamp (by omega)
  have g16 : upd a16 (nI c).toNatClampNeg (((a16 (nI c).toNatClampNeg + 1) &&& 3).toInt8.toInt32) = upd a16 c (nI ((h + 1) % 4)) := by
    rw [e, h16, nI_1, zr_a3 (by omega), zr_b _ (by omega)]
  have g17 : upd a17 (nI c).toNatClampNeg ((a17 (nI c).toNatClampNeg - 1).toInt8.toInt32) = upd a17 c (nI k) := by
    rw [e, h17, nI_pred, zr_b _ (by omega)]
  have g15 : upd a15 (nI ro).toNatClampNeg (a19 (nI (4 * c + h)).toNatClampNeg) = upd a15 ro (a19 (4 * c + h)) := by rw [e2, f]
  refine ⟨pk_in c 9 hc, nm_r hx ⟨pk_in c 9 hc, pk_in c 9 hc, nm_r g16 ⟨pk_in c 9 hc, pk_in c 9 hc, nm_r g17 ⟨pk_in (4 * c + h) 36 (by omega), pk_in ro 3 hr, nm_r g15 ⟨pk_in (4 * c + h) 36 (by omega), ?_⟩⟩⟩⟩⟩
  rw [f]
  exact hp
theorem zr_rec_o {post : Int32 → St2 → Prop} {sz mk ht sd : Int32} {a1 a2 a3 a4 a5 a6 a7 a8 a9 a10 a11 a12 a13 a14 a15 a16 a17 a18 a19 a20 : Nat → Int32} {ro : Nat} (hr : ro < 3) (h11 : a11 ro = -2) (hp : post (-4) (sz, mk, ht, sd, a1, a2, a3, a4, a5, a6, a7, a8, a9, a10, a11, a12, a13, a14, a15, a16, a17, a18, a19, a20)) : wpX_receive post (sz, mk, ht, sd, a1, a2, a3, a4, a5, a6, a7, a8, a9, a10, a11, a12, a13, a14, a15, a16, a17, a18, a19, a20) (nI ro) := by
  have e : (nI ro).toNatClampNeg = ro := nI_clamp (by omega)
  unfold wpX_receive
  exact zr_bad hr (br_t rfl ⟨pk_in ro 3 hr, nm_r (by rw [e, h11]) (br_t (by decide) hp)⟩)
theorem zr_rec_s {post : Int32 → St2 → Prop} {sz mk ht sd : Int32} {a1 a2 a3 a4 a5 a6 a7 a8 a9 a10 a11 a12 a13 a14 a15 a16 a17 a18 a19 a20 : Nat → Int32} {n ro d : Nat} (h : zr_at n ro d a1 a2 a3) (h11 : a11 ro = nI n) (hp : post (-4) (sz, mk, ht, sd, a1, a2, a3, a4, a5, a6, a7, a8, a9, a10, a11, a12, a13, a14, a15, a16, a17, a18, a19, a20)) : wpX_receive post (sz, mk, ht, sd, a1, a2, a3, a4, a5, a6, a7, a8, a9, a10, a11, a12, a13, a14, a15, a16, a17, a18, a19, a20) (nI ro) := by
  obtain ⟨hn, hs, hd, hne, h1, h2, h3⟩ := h
  have e : (nI ro).toNatClampNeg = ro := nI_clamp (by omega)
  have f : (nI n).toNatClampNeg = n := nI_clamp (by omega)
  unfold wpX_receive
  exact zr_bad hs (br_t rfl ⟨pk_in ro 3 hs, nm_r (by rw [e, h11]) (br_f (nI_pos (by omega)) ⟨pk_in n 40 hn, br_t (by rw [f, h2]) hp⟩)⟩)
theorem zr_rec_e {post : Int32 → St2 → Prop} {sz mk ht sd : Int32} {a1 a2 a3 a4 a5 a6 a7 a8 a9 a10 a11 a12 a13 a14 a15 a16 a17 a18 a19 a20 : Nat → Int32} {n s ro : Nat} (h : zr_at n s ro a1 a2 a3) (h11 : a11 ro = nI n) (h17 : a17 (3 * s + ro) = nI 0) (hp : post (-4) (sz, mk, ht, sd, a1, a2, a3, a4, a5, a6, a7, a8, a9, a10, a11, a12, a13, a14, a15, a16, a17, a18, a19, a20)) : wpX_receive post (sz, mk, ht, sd, a1, a2, a3, a4, a5, a6, a7, a8, a9, a10, a11, a12, a13, a14, a15, a16, a17, a18, a19, a20) (nI ro) := by
  obtain ⟨hn, hs, hd, hne, h1, h2, h3⟩ := h
  have e : (nI ro).toNatClampNeg = ro := nI_clamp (by omega)
  have f : (nI n).toNatClampNeg = n := nI_clamp (by omega)
  have f' : (nI (3 * s + ro)).toNatClampNeg = 3 * s + ro := nI_clamp (by omega)
  unfold wpX_receive
  refine zr_bad hd (br_t rfl ⟨pk_in ro 3 hd, nm_r (by rw [e, h11]) (br_f (nI_pos (by omega)) ⟨pk_in n 40 hn, br_f (by rw [f, h2]; exact zr_ne (by omega) (by omega) hne) ⟨pk_in n 40 hn, ?_⟩⟩)⟩)
  rw [f, h2]
  exact zr_que ⟨pk_in (3 * s + ro) 9 (by omega), br_t (by rw [f', h17]; rfl) hp⟩
theorem zr_rec_ok {post : Int32 → St2 → Prop} {sz mk ht sd : Int32} {a1 a2 a3 a4 a5 a6 a7 a8 a9 a10 a11 a12 a13 a14 a15 a16 a17 a18 a19 a20 : Nat → Int32} {n s ro h k d : Nat} (ha : zr_at n s ro a1 a2 a3) (h11 : a11 ro = nI n)
    (hh : h < 4) (hk : k < 4) (h16 : a16 (3 * s + ro) = nI h) (h17 : a17 (3 * s + ro) = nI (k + 1)) (hd' : d < 100)
    (hlf : ∀ P : Int32 → Prop, P (nI d) → wpX_localFrom P (sz, mk, ht, sd, a1, a2, a3, a4, a5, a6, a7, a8, a9, a10, a11, a12, a13, a14, upd a15 ro (a19 (4 * (3 * s + ro) + h)), upd a16 (3 * s + ro) (nI ((h + 1) % 4)), upd a17 (3 * s + ro) (nI k), a18, a19, a20) (nI ro) (a5 n))
    (hp : post (a18 (4 * (3 * s + ro) + h)) (sz, mk, ht, sd, a1, a2, a3, a4, a5, a6, a7, a8, a9, a10, upd a11 ro (nI d), a12, a13, a14, upd a15 ro (a19 (4 * (3 * s + ro) + h)), upd a16 (3 * s + ro) (nI ((h + 1) % 4)), upd a17 (3 * s + ro) (nI k), a18, a19, a20)) :
    wpX_receive post (sz, mk, ht, sd, a1, a2, a3, a4, a5, a6, a7, a8, a9, a10, a11, a12, a13, a14, a15, a16, a17, a18, a19, a20) (nI ro) := by
  obtain ⟨hn, hs, hd, hne, h1, h2, h3⟩ := ha
  have e : (nI ro).toNatClampNeg = ro := nI_clamp (by omega)
  have f : (nI n).toNatClampNeg = n := nI_clamp (by omega)
  have f' : (nI (3 * s + ro)).toNatClampNeg = 3 * s + ro := nI_clamp (by omega)
  have n2 : ¬ a1 (nI n).toNatClampNeg = 2 := by rw [f, h1]; decide
  unfold wpX_receive
  refine zr_bad hd (br_t rfl ⟨pk_in ro 3 hd, nm_r (by rw [e, h11]) (br_f (nI_pos (by omega)) ⟨pk_in n 40 hn, br_f (by rw [f, h2]; exact zr_ne (by omega) (by omega) hne) ⟨pk_in n 40 hn, ?_⟩⟩)⟩)
  rw [f, h2]
  refine zr_que ⟨pk_in (3 * s + ro) 9 (by omega), br_f (by rw [f', h17]; exact zr_ne (b := 0) (by omega) (by omega) (by omega)) (zr_take (by omega) hd hh hk h16 h17 ⟨pk_in n 40 hn, br_f (by rw [h1]; decide) ⟨pk_in n 40 hn, br_f n2 ⟨pk_in n 40 hn, ?_⟩⟩⟩)⟩
  unfold wX_receive_119
  rw [f]
  exact zr_goOn hd hd' hlf hp
end
section
/-! foremost, spread, endComes, canFinish -/
theorem zr_fore {post : Int32 → Prop} {sz mk ht sd : Int32} {a1 a2 a3 a4 a5 a6 a7 a8 a9 a10 a11 a12 a13 a14 a15 a16 a17 a18 a19 a20 : Nat → Int32} (h14 : ∀ j, j < 3 → a14 j = 0) (hp : post 0) : wpX_foremost post (sz, mk, ht, sd, a1, a2, a3, a4, a5, a6, a7, a8, a9, a10, a11, a12, a13, a14, a15, a16, a17, a18, a19, a20) := by
  have e : ∀ j, j < 3 → a14 (nI j).toNatClampNeg = 0 := fun j hj => by rw [nI_clamp (by omega)]; exact h14 j hj
  have st : ∀ n j, 1 ≤ j → j < 3 → wX_foremost_4 post sz mk ht sd a1 a2 a3 a4 a5 a6 a7 a8 a9 a10 a11 a12 a13 a14 a15 a16 a17 a18 a19 a20 n (nI 0) (nI (j + 1)) → wX_foremost_4 post sz mk ht sd a1 a2 a3 a4 a5 a6 a7 a8 a9 a10 a11 a12 a13 a14 a15 a16 a17 a18 a19 a20 (n + 1) (nI 0) (nI j) := by
    intro n j _ hj hw
    exact pk_le 3 j (fun z => absurd z (by omega)) (fun _ => ⟨pk_in j 3 hj, pk_in 0 3 (by omega), br_t (by rw [e j hj, e 0 (by omega)]; decide) (nm_r (nI_1 j) hw)⟩)
  exact ⟨3, st 2 1 (by omega) (by omega) (st 1 2 (by omega) (by omega) (pk_le 3 3 (fun _ => hp) (fun z => absurd z (by omega))))⟩
/-- terms none of which is the end, with parts in range -/
def zr_N (k : Nat) (a1 a5 a7 : Nat → Int32) : Prop := ∀ i, i < k → (a1 i = 4 ∧ ∃ d, d < 20 ∧ a7 i = nI d) ∨ ((a1 i = 1 ∨ a1 i = 3) ∧ ∃ d, d < 20 ∧ a5 i = nI d)
theorem zr_spread {post : St2 → Prop} {sz mk ht sd : Int32} {a1 a2 a3 a4 a5 a6 a7 a8 a9 a10 a11 a12 a13 a14 a15 a16 a17 a18 a19 a20 : Nat → Int32} {k i : Nat} (hN : zr_N k a1 a5 a7) (hi : i < k) (h20 : i < 20) (hp : ∀ a20', post (sz, mk, ht, sd, a1, a2, a3, a4, a5, a6, a7, a8, a9, a10, a11, a12, a13, a14, a15, a16, a17, a18, a19, a20')) : wpX_spread post (sz, mk, ht, sd, a1, a2, a3, a4, a5, a6, a7, a8, a9, a10, a11, a12, a13, a14, a15, a16, a17, a18, a19, a20) (nI i) := by
  have e : (nI i).toNatClampNeg = i := nI_clamp (by omega)
  refine ⟨pk_in i 40 (by omega), fun x hx => ?_⟩
  rw [e] at hx
  rcases hN i hi with ⟨h4, d, hd, h7⟩ | ⟨h13, d, hd, h5⟩
  · have hx' : x = 4 := by rw [hx, h4]
    exact br_t hx' ⟨pk_in i 20 h20, pk_in d 20 hd (by rw [e, h7]), nm_e (br_f (by rw [hx']; decide) (hp _))⟩
  · have n4 : ¬ x = 4 := by rw [hx]; rcases h13 with h | h <;> rw [h] <;> decide
    have n0 : ¬ x = 0 := by rw [hx]; rcases h13 with h | h <;> rw [h] <;> decide
    have n2 : ¬ x = 2 := by rw [hx]; rcases h13 with h | h <;> rw [h] <;> decide
    exact br_f n4 (br_f n0 ⟨pk_in i 40 (by omega), pk_in d 20 hd (by rw [e, h5]), nm_e (br_f n2 (hp _))⟩)
theorem zr_ends_34 {post : Int32 → St2 → Prop} {k : Nat} (hk : k ≤ 20) {mk ht sd : Int32} {a1 a2 a3 a4 a5 a6 a7 a8 a9 a10 a11 a12 a13 a14 a15 a16 a17 a18 a19 : Nat → Int32} (hN : zr_N k a1 a5 a7)
    (hp : ∀ a20', post 0 (nI k, mk, ht, sd, a1, a2, a3, a4, a5, a6, a7, a8, a9, a10, a11, a12, a13, a14, a15, a16, a17, a18, a19, a20')) :
    ∀ d i a20, i + d = 400 → wX_endComes_34 post (d + 1) 0 (nI i) (nI k) mk ht sd a1 a2 a3 a4 a5 a6 a7 a8 a9 a10 a11 a12 a13 a14 a15 a16 a17 a18 a19 a20 := by
  have h0 : narrow .boolean (.int 0) = .int 0 := by rfl
  intro d
  induction d with
  | zero =>
    intro i a20 hi
    exact pk_le 400 i (fun _ => ⟨h0, hp _⟩) (fun z => absurd z (by omega))
  | succ d ih =>
    intro i a20 hi
    have hn := fun a20' => ih (i + 1) a20' (by omega)
    have e : (nI (i % 20)).toNatClampNeg = i % 20 := nI_clamp (by omega)
    refine pk_le 400 i (fun z => absurd z (by omega)) (fun _ => ⟨by decide, nm_r (pk_rem (d := 20) (by omega) (by omega) (by omega)) ?_⟩)
    refine pk_le k (i % 20) (fun _ => nm_r (nI_1 i) (hn _)) (fun z => ⟨pk_in (i % 20) 20 (by omega), br_c (fun _ => nm_r (nI_1 i) (hn _)) (fun _ => ?_)⟩)
    refine zr_spread hN z (by omega) (fun a20' => br_t rfl ⟨pk_in (i % 20) 40 (by omega), br_f ?_ (nm_r (nI_1 i) (hn _))⟩)
    rw [e]
    rcases hN (i % 20) z with ⟨h4, _⟩ | ⟨h13, _⟩
    · rw [h4]; decide
    · rcases h13 with h | h <;> rw [h] <;> decide
theorem zr_ends {post : Int32 → St2 → Prop} {sz mk ht sd : Int32} {a1 a2 a3 a4 a5 a6 a7 a8 a9 a10 a11 a12 a13 a14 a15 a16 a17 a18 a19 a20 : Nat → Int32} {k : Nat} {x : Int32} (hk : k ≤ 20) (hsz : sz = nI k) (hN : zr_N k a1 a5 a7) (hp : ∀ a20', post 0 (sz, mk, ht, sd, a1, a2, a3, a4, a5, a6, a7, a8, a9, a10, a11, a12, a13, a14, a15, a16, a17, a18, a19, a20')) :
    wpX_endComes post (sz, mk, ht, sd, a1, a2, a3, a4, a5, a6, a7, a8, a9, a10, a11, a12, a13, a14, a15, a16, a17, a18, a19, a20) x := by
  subst hsz
  have main : ∀ d i a20, i + d = 20 → wX_endComes_2 post x (nI k) mk ht sd (d + 1) (nI i) a1 a2 a3 a4 a5 a6 a7 a8 a9 a10 a11 a12 a13 a14 a15 a16 a17 a18 a19 a20 := by
    intro d
    induction d with
    | zero =>
      intro i a20 hi
      exact pk_le 20 i (fun _ => ⟨401, zr_ends_34 hk hN hp 400 0 a20 rfl⟩) (fun z => absurd z (by omega))
    | succ d ih =>
      intro i a20 hi
      have hn := fun a20' => ih (i + 1) a20' (by omega)
      exact pk_le 20 i (fun z => absurd z (by omega)) (fun _ => br_c (fun _ => ⟨pk_in i 20 (by omega), nm_e (nm_r (nI_1 i) (hn _))⟩) (fun _ => ⟨pk_in i 20 (by omega), nm_e (nm_r (nI_1 i) (hn _))⟩))
  exact ⟨21, main 20 0 a20 rfl⟩
theorem zr_finish {post : Int32 → St2 → Prop} {sz mk ht sd : Int32} {a1 a2 a3 a4 a5 a6 a7 a8 a9 a10 a11 a12 a13 a14 a15 a16 a17 a18 a19 a20 : Nat → Int32} {k : Nat} (hk : k ≤ 20) (hsz : sz = nI k) (hN : zr_N k a1 a5 a7) (h14 : ∀ j, j < 3 → a14 j = 0) (h12 : a12 0 = 0) (h11 : ¬ a11 0 = -1)
    (hp : ∀ a20', post 0 (sz, mk, ht, sd, a1, a2, a3, a4, a5, a6, a7, a8, a9, a10, a11, a12, a13, a14, a15, a16, a17, a18, a19, a20')) : wpX_canFinish post (sz, mk, ht, sd, a1, a2, a3, a4, a5, a6, a7, a8, a9, a10, a11, a12, a13, a14, a15, a16, a17, a18, a19, a20) := by
  have e : (0 : Int32).toNatClampNeg = 0 := rfl
  have h50 : ∀ x : Int32, ¬ x = -1 → wX_canFinish_50 post x sz mk ht sd a1 a2 a3 a4 a5 a6 a7 a8 a9 a10 a11 a12 a13 a14 a15 a16 a17 a18 a19 a20 := fun x hx =>
    br_c (fun _ => zr_ends hk hsz hN (fun a20' => br_t rfl (hp a20'))) (fun _ => br_f hx (hp a20))
  unfold wpX_canFinish
  refine zr_fore h14 ⟨pk_in 0 3 (by omega), nm_r (e' := a11 0) (by rw [e]) (br_c (fun _ => h50 _ h11) (fun _ => ⟨pk_in 0 3 (by omega), br_t (by rw [e, h12]) (h50 _ h11)⟩))⟩
/-- the terms of the law are such -/
theorem zr_TN {e p q r l m : Nat} {sz : Int32} {a1 a2 a3 a4 a5 a7 : Nat → Int32} (h : zr_T e p q r l m sz a1 a2 a3 a4 a5 a7) : zr_N (e + 2) a1 a5 a7 := by
  obtain ⟨he, _, h4, h7, h3, h5, h1, _, _, _, h5', hm⟩ := h
  intro i hi
  by_cases i0 : i = 0
  · subst i0
    exact Or.inl ⟨h4, e + 1, by omega, h7⟩
  by_cases i1 : i = e + 1
  · subst i1
    exact Or.inr ⟨Or.inr h3, e, by omega, h5⟩
  by_cases i2 : i = e
  · subst i2
    exact Or.inr ⟨Or.inl h1, i - 1, by omega, h5'⟩
  have i3 : i = 1 := by omega
  subst i3
  obtain ⟨g1, _, _, _, g5⟩ := hm (by omega)
  exact Or.inr ⟨Or.inl g1, 0, by omega, g5⟩
end
section
/-! the picture of the law's loop: queues, the invariant, and what a turn does to it -/
def zr_Q (c g s l : Nat) (W : Nat → Int32) (a16 a17 a18 a19 : Nat → Int32) : Prop :=
  g ≤ s ∧ s ≤ g + 4 ∧ a16 c = nI (g % 4) ∧ a17 c = nI (s - g) ∧ ∀ i, g ≤ i → i < s → a18 (4 * c + i % 4) = nI l ∧ a19 (4 * c + i % 4) = W i
theorem zr_Q_put {c g s l : Nat} {W : Nat → Int32} {a16 a17 a18 a19 : Nat → Int32} (h : zr_Q c g s l W a16 a17 a18 a19) (hk : s - g < 4) :
    zr_Q c g (s + 1) l W a16 (upd a17 c (nI (s - g + 1))) (upd a18 (4 * c + (g % 4 + (s - g)) % 4) (nI l)) (upd a19 (4 * c + (g % 4 + (s - g)) % 4) (W s)) := by
  obtain ⟨h1, h2, h3, h4, h5⟩ := h
  have ee : (g % 4 + (s - g)) % 4 = s % 4 := by omega
  rw [ee]
  refine ⟨by omega, by omega, h3, ?_, fun i hi hi2 => ?_⟩
  · rw [pk_us, show s + 1 - g = s - g + 1 by omega]
  · by_cases z : i = s
    · subst z
      exact ⟨pk_us, pk_us⟩
    · have n : 4 * c + i % 4 ≠ 4 * c + s % 4 := by omega
      rw [pk_un n, pk_un n]
      exact h5 i hi (by omega)
theorem zr_Q_take {c g s k l : Nat} {W : Nat → Int32} {a16 a17 a18 a19 : Nat → Int32} (h : zr_Q c g s l W a16 a17 a18 a19) (hk : s - g = k + 1) :
    zr_Q c (g + 1) s l W (upd a16 c (nI ((g % 4 + 1) % 4))) (upd a17 c (nI k)) a18 a19 := by
  obtain ⟨h1, h2, h3, h4, h5⟩ := h
  refine ⟨by omega, by omega, ?_, ?_, fun i hi hi2 => h5 i (by omega) hi2⟩
  · rw [pk_us, show (g % 4 + 1) % 4 = (g + 1) % 4 by omega]
  · rw [pk_us, show s - (g + 1) = k by omega]
theorem zr_Q_put' {c c' g s l j : Nat} {W : Nat → Int32} {x y z : Int32} {a16 a17 a18 a19 : Nat → Int32} (h : zr_Q c' g s l W a16 a17 a18 a19) (hc : c' ≠ c) :
    zr_Q c' g s l W a16 (upd a17 c x) (upd a18 (4 * c + j % 4) y) (upd a19 (4 * c + j % 4) z) := by
  obtain ⟨h1, h2, h3, h4, h5⟩ := h
  refine ⟨h1, h2, h3, by rw [pk_un hc]; exact h4, fun i hi hi2 => ?_⟩
  have n : 4 * c' + i % 4 ≠ 4 * c + j % 4 := by omega
  rw [pk_un n, pk_un n]
  exact h5 i hi hi2
theorem zr_Q_take' {c c' g s l : Nat} {W : Nat → Int32} {x y : Int32} {a16 a17 a18 a19 : Nat → Int32} (h : zr_Q c' g s l W a16 a17 a18 a19) (hc : c' ≠ c) :
    zr_Q c' g s l W (upd a16 c x) (upd a17 c y) a18 a19 := by
  obtain ⟨h1, h2, h3, h4, h5⟩ := h
  exact ⟨h1, h2, by rw [pk_un hc]; exact h3, by rw [pk_un hc]; exact h4, h5⟩
def zr_P (p q r l m : Nat) : Prop := p < 3 ∧ q < 3 ∧ r < 3 ∧ p ≠ q ∧ q ≠ r ∧ p ≠ r ∧ l < 4 ∧ m < 4
/-- the counters: w is q's place -/
def zr_C (e i s g s2 g2 w : Nat) : Prop := s ≤ i ∧ (e = 1 → s2 = 0 ∧ g2 = 0) ∧ (w = e ∧ (e = 1 ∨ g = s2) ∨ e = 2 ∧ w = 1 ∧ g = s2 + 1)
def zr_R (e p q r w : Nat) (a11 a12 a14 a15 a17 : Nat → Int32) : Prop :=
  a11 p = nI e ∧ a11 q = nI w ∧ (e = 1 → a11 r = -2) ∧ (e = 2 → a11 r = nI 1) ∧ (∀ j, j < 3 → a12 j = 0) ∧ (∀ j, j < 3 → a14 j = 0) ∧ a15 p = 0 ∧ a17 (3 * q + p) = 0
def zr_I (e p q r l m : Nat) (V : Int32) (i s g s2 g2 w : Nat) (sz sd : Int32) (a1 a2 a3 a4 a5 a7 a11 a12 a14 a15 a16 a17 a18 a19 : Nat → Int32) : Prop :=
  zr_T e p q r l m sz a1 a2 a3 a4 a5 a7 ∧ zr_P p q r l m ∧ zr_C e i s g s2 g2 w ∧ sd = nI (s + s2) ∧ zr_R e p q r w a11 a12 a14 a15 a17 ∧
  zr_Q (3 * p + q) g s l (fun i => V + nI i) a16 a17 a18 a19 ∧ zr_Q (3 * q + r) g2 s2 m (fun i => V - nI i) a16 a17 a18 a19
section
variable {e p q r l m i s g s2 g2 w : Nat} {V sz sd : Int32} {a1 a2 a3 a4 a5 a7 a11 a12 a14 a15 a16 a17 a18 a19 : Nat → Int32}
theorem zr_I_next (h : zr_I e p q r l m V i s g s2 g2 w sz sd a1 a2 a3 a4 a5 a7 a11 a12 a14 a15 a16 a17 a18 a19) :
    zr_I e p q r l m V (i + 1) s g s2 g2 w sz sd a1 a2 a3 a4 a5 a7 a11 a12 a14 a15 a16 a17 a18 a19 := by
  obtain ⟨hT, hP, ⟨c1, c2, c3⟩, h⟩ := h
  exact ⟨hT, hP, ⟨by omega, c2, c3⟩, h⟩
theorem zr_I_psend (h : zr_I e p q r l m V i s g s2 g2 w sz sd a1 a2 a3 a4 a5 a7 a11 a12 a14 a15 a16 a17 a18 a19) (hk : s - g < 4) :
    zr_I e p q r l m V (i + 1) (s + 1) g s2 g2 w sz (sd + 1) a1 a2 a3 a4 a5 a7 (upd a11 p (nI e)) a12 a14 a15 a16 (upd a17 (3 * p + q) (nI (s - g + 1)))
      (upd a18 (4 * (3 * p + q) + (g % 4 + (s - g)) % 4) (nI l)) (upd a19 (4 * (3 * p + q) + (g % 4 + (s - g)) % 4) (V + nI s)) := by
  obtain ⟨hT, hP, ⟨c1, c2, c3⟩, hsd, ⟨b1, b2, b3, b4, b5, b6, b7, b8⟩, Q1, Q2⟩ := h
  have hP' := hP
  obtain ⟨hp, hq, hr, hpq, hqr, hpr, hl, hm⟩ := hP'
  refine ⟨hT, hP, ⟨by omega, c2, c3⟩, ?_, ⟨pk_us, ?_, ?_, ?_, b5, b6, b7, ?_⟩, zr_Q_put Q1 hk, zr_Q_put' Q2 (by omega)⟩
  · rw [hsd, nI_1, show s + s2 + 1 = s + 1 + s2 by omega]
  · rw [pk_un (by omega)]; exact b2
  · rw [pk_un (by omega)]; exact b3
  · rw [pk_un (by omega)]; exact b4
  · rw [pk_un (by omega)]; exact b8
theorem zr_I_qrec {k : Nat} {x : Int32} (h : zr_I e p q r l m V i s g s2 g2 w sz sd a1 a2 a3 a4 a5 a7 a11 a12 a14 a15 a16 a17 a18 a19) (hk : s - g = k + 1) (hw : e = 1 ∨ g = s2) :
    zr_I e p q r l m V (i + 1) s (g + 1) s2 g2 1 sz sd a1 a2 a3 a4 a5 a7 (upd a11 q (nI 1)) a12 a14 (upd a15 q x) (upd a16 (3 * p + q) (nI ((g % 4 + 1) % 4))) (upd a17 (3 * p + q) (nI k)) a18 a19 := by
  obtain ⟨hT, hP, ⟨c1, c2, c3⟩, hsd, ⟨b1, b2, b3, b4, b5, b6, b7, b8⟩, Q1, Q2⟩ := h
  have hP' := hP
  obtain ⟨hp, hq, hr, hpq, hqr, hpr, hl, hm⟩ := hP'
  have he := hT.1
  refine ⟨hT, hP, ⟨by omega, c2, by omega⟩, hsd, ⟨?_, pk_us, ?_, ?_, b5, b6, ?_, ?_⟩, zr_Q_take Q1 hk, zr_Q_take' Q2 (by omega)⟩
  · rw [pk_un (by omega)]; exact b1
  · rw [pk_un (by omega)]; exact b3
  · rw [pk_un (by omega)]; exact b4
  · rw [pk_un (by omega)]; exact b7
  · rw [pk_un (by omega)]; exact b8
theorem zr_I_qsend (h : zr_I e p q r l m V i s g s2 g2 w sz sd a1 a2 a3 a4 a5 a7 a11 a12 a14 a15 a16 a17 a18 a19) (hk : s2 - g2 < 4) (he : e = 2) (hw : g = s2 + 1) :
    zr_I e p q r l m V (i + 1) s g (s2 + 1) g2 2 sz (sd + 1) a1 a2 a3 a4 a5 a7 (upd a11 q (nI 2)) a12 a14 a15 a16 (upd a17 (3 * q + r) (nI (s2 - g2 + 1)))
      (upd a18 (4 * (3 * q + r) + (g2 % 4 + (s2 - g2)) % 4) (nI m)) (upd a19 (4 * (3 * q + r) + (g2 % 4 + (s2 - g2)) % 4) (V - nI s2)) := by
  obtain ⟨hT, hP, ⟨c1, c2, c3⟩, hsd, ⟨b1, b2, b3, b4, b5, b6, b7, b8⟩, Q1, Q2⟩ := h
  have hP' := hP
  obtain ⟨hp, hq, hr, hpq, hqr, hpr, hl, hm⟩ := hP'
  refine ⟨hT, hP, ⟨by omega, fun z => absurd z (by omega), by omega⟩, ?_, ⟨?_, pk_us, ?_, ?_, b5, b6, b7, ?_⟩, zr_Q_put' Q1 (by omega), zr_Q_put Q2 hk⟩
  · rw [hsd, nI_1, show s + s2 + 1 = s + (s2 + 1) by omega]
  · rw [pk_un (by omega)]; exact b1
  · rw [pk_un (by omega)]; exact b3
  · rw [pk_un (by omega)]; exact b4
  · rw [pk_un (by omega)]; exact b8
theorem zr_I_rrec {k : Nat} {x : Int32} (h : zr_I e p q r l m V i s g s2 g2 w sz sd a1 a2 a3 a4 a5 a7 a11 a12 a14 a15 a16 a17 a18 a19) (hk : s2 - g2 = k + 1) (he : e = 2) :
    zr_I e p q r l m V (i + 1) s g s2 (g2 + 1) w sz sd a1 a2 a3 a4 a5 a7 (upd a11 r (nI 1)) a12 a14 (upd a15 r x) (upd a16 (3 * q + r) (nI ((g2 % 4 + 1) % 4))) (upd a17 (3 * q + r) (nI k)) a18 a19 := by
  obtain ⟨hT, hP, ⟨c1, c2, c3⟩, hsd, ⟨b1, b2, b3, b4, b5, b6, b7, b8⟩, Q1, Q2⟩ := h
  have hP' := hP
  obtain ⟨hp, hq, hr, hpq, hqr, hpr, hl, hm⟩ := hP'
  refine ⟨hT, hP, ⟨by omega, fun z => absurd z (by omega), c3⟩, hsd, ⟨?_, ?_, fun z => absurd z (by omega), fun _ => pk_us, b5, b6, ?_, ?_⟩, zr_Q_take' Q1 (by omega), zr_Q_take Q2 hk⟩
  · rw [pk_un (by omega)]; exact b1
  · rw [pk_un (by omega)]; exact b2
  · rw [pk_un (by omega)]; exact b7
  · rw [pk_un (by omega)]; exact b8
theorem zr_I_at (h : zr_I e p q r l m V i s g s2 g2 w sz sd a1 a2 a3 a4 a5 a7 a11 a12 a14 a15 a16 a17 a18 a19) : zr_at e p q a1 a2 a3 := by
  obtain ⟨⟨he, _, _, _, _, _, h1, h2, h3, _⟩, ⟨hp, hq, hr, hpq, _⟩, _⟩ := h
  exact ⟨by omega, hp, hq, hpq, h1, h2, h3⟩
theorem zr_I_at2 (h : zr_I e p q r l m V i s g s2 g2 w sz sd a1 a2 a3 a4 a5 a7 a11 a12 a14 a15 a16 a17 a18 a19) (he : e = 2) : zr_at 1 q r a1 a2 a3 := by
  obtain ⟨⟨_, _, _, _, _, _, _, _, _, _, _, hm⟩, ⟨hp, hq, hr, hpq, hqr, _⟩, _⟩ := h
  obtain ⟨h1, h2, h3, _⟩ := hm he
  exact ⟨by omega, hq, hr, hqr, h1, h2, h3⟩
theorem zr_I_11 (h : zr_I e p q r l m V i s g s2 g2 w sz sd a1 a2 a3 a4 a5 a7 a11 a12 a14 a15 a16 a17 a18 a19) : ¬ a11 0 = -1 := by
  obtain ⟨hT, ⟨hp, hq, hr, hpq, hqr, hpr, _⟩, ⟨_, _, c3⟩, _, ⟨b1, b2, b3, b4, _⟩, _⟩ := h
  have he := hT.1
  have n1 : ∀ k, k < 40 → ¬ nI k = -1 := by decide +kernel
  have h0 : p = 0 ∨ q = 0 ∨ r = 0 := by omega
  rcases h0 with z | z | z
  · subst z
    rw [b1]
    exact n1 _ (by omega)
  · subst z
    rw [b2]
    exact n1 _ (by omega)
  · subst z
    rcases he with z | z
    · rw [b3 z]; decide
    · rw [b4 z]; exact n1 _ (by omega)
end
/-! where a role goes on -/
theorem zr_go_p {P : Int32 → Prop} {sz mk ht sd : Int32} {a1 a2 a3 a4 a5 a6 a7 a8 a9 a10 a11 a12 a13 a14 a15 a16 a17 a18 a19 a20 : Nat → Int32} {e p q r l m : Nat} (h : zr_T e p q r l m sz a1 a2 a3 a4 a5 a7) (hP : zr_P p q r l m) (hp : P (nI e)) : wpX_localFrom P (sz, mk, ht, sd, a1, a2, a3, a4, a5, a6, a7, a8, a9, a10, a11, a12, a13, a14, a15, a16, a17, a18, a19, a20) (nI p) (a5 e) := by
  have h' := h
  obtain ⟨he, _, _, _, _, _, h1, h2, h3, h4, h5, hm⟩ := h'
  obtain ⟨pp, qq, rr, hpq, hqr, hpr, _⟩ := hP
  rcases he with z | z
  · subst z
    rw [h5]
    exact zr_lf_hit (fun P hp => zr_walk_0 h hp) (by omega) h1 (Or.inl h2) hp
  · subst z
    obtain ⟨g1, g2, g3, g4, g5⟩ := hm rfl
    rw [h5]
    exact zr_lf_hop (c := 1) (d := 2) (fun P hp => zr_walk_at (c := 1) (by omega) g1 hp) (by omega) g1 (by rw [g2]; exact zr_ne (by omega) (by omega) (by omega)) (by rw [g3]; exact zr_ne (by omega) (by omega) (by omega)) (fun P hp => by rw [g5]; exact zr_walk_0 h hp) (by omega) h1 (Or.inl h2) hp
theorem zr_go_q {P : Int32 → Prop} {sz mk ht sd : Int32} {a1 a2 a3 a4 a5 a6 a7 a8 a9 a10 a11 a12 a13 a14 a15 a16 a17 a18 a19 a20 : Nat → Int32} {e p q r l m : Nat} (h : zr_T e p q r l m sz a1 a2 a3 a4 a5 a7) (hp : P (nI 1)) : wpX_localFrom P (sz, mk, ht, sd, a1, a2, a3, a4, a5, a6, a7, a8, a9, a10, a11, a12, a13, a14, a15, a16, a17, a18, a19, a20) (nI q) (a5 e) := by
  have h' := h
  obtain ⟨he, _, _, _, _, _, h1, h2, h3, h4, h5, hm⟩ := h'
  rcases he with z | z
  · subst z
    rw [h5]
    exact zr_lf_hit (fun P hp => zr_walk_0 h hp) (by omega) h1 (Or.inr h3) hp
  · subst z
    obtain ⟨g1, g2, g3, g4, g5⟩ := hm rfl
    rw [h5]
    exact zr_lf_hit (c := 1) (fun P hp => zr_walk_at (c := 1) (by omega) g1 hp) (by omega) g1 (Or.inl g2) hp
theorem zr_go_q1 {P : Int32 → Prop} {sz mk ht sd : Int32} {a1 a2 a3 a4 a5 a6 a7 a8 a9 a10 a11 a12 a13 a14 a15 a16 a17 a18 a19 a20 : Nat → Int32} {e p q r l m : Nat} (h : zr_T e p q r l m sz a1 a2 a3 a4 a5 a7) (z : e = 2) (hp : P (nI 2)) : wpX_localFrom P (sz, mk, ht, sd, a1, a2, a3, a4, a5, a6, a7, a8, a9, a10, a11, a12, a13, a14, a15, a16, a17, a18, a19, a20) (nI q) (a5 1) := by
  subst z
  have h' := h
  obtain ⟨he, _, _, _, _, _, h1, h2, h3, h4, h5, hm⟩ := h'
  obtain ⟨g1, g2, g3, g4, g5⟩ := hm rfl
  rw [g5]
  exact zr_lf_hit (fun P hp => zr_walk_0 h hp) (by omega) h1 (Or.inr h3) hp
theorem zr_go_r {P : Int32 → Prop} {sz mk ht sd : Int32} {a1 a2 a3 a4 a5 a6 a7 a8 a9 a10 a11 a12 a13 a14 a15 a16 a17 a18 a19 a20 : Nat → Int32} {e p q r l m : Nat} (h : zr_T e p q r l m sz a1 a2 a3 a4 a5 a7) (hP : zr_P p q r l m) (z : e = 2) (hp : P (nI 1)) : wpX_localFrom P (sz, mk, ht, sd, a1, a2, a3, a4, a5, a6, a7, a8, a9, a10, a11, a12, a13, a14, a15, a16, a17, a18, a19, a20) (nI r) (a5 1) := by
  subst z
  have h' := h
  obtain ⟨he, _, _, _, _, _, h1, h2, h3, h4, h5, hm⟩ := h'
  obtain ⟨g1, g2, g3, g4, g5⟩ := hm rfl
  obtain ⟨pp, qq, rr, hpq, hqr, hpr, _⟩ := hP
  rw [g5]
  exact zr_lf_hop (c := 2) (d := 1) (fun P hp => zr_walk_0 h hp) (by omega) h1 (by rw [h2]; exact zr_ne (by omega) (by omega) (by omega)) (by rw [h3]; exact zr_ne (by omega) (by omega) (by omega)) (fun P hp => by rw [h5]; exact zr_walk_at (c := 1) (by omega) g1 hp) (by omega) g1 (Or.inr g3) hp
end
section
/-! one turn of the law's loop -/
theorem zr_653 {post : Int32 → St0 → Prop} {mc ms kc ks : Nat} {J : Int32 → Int32 → Int32 → Int32 → Int32 → Int32 → Int32 → Int32 → Int32 → (Nat → Int32) → (Nat → Int32) → (Nat → Int32) → (Nat → Int32) → (Nat → Int32) → (Nat → Int32) → (Nat → Int32) → (Nat → Int32) → (Nat → Int32) → (Nat → Int32) → (Nat → Int32) → (Nat → Int32) → (Nat → Int32) → (Nat → Int32) → (Nat → Int32) → (Nat → Int32) → (Nat → Int32) → (Nat → Int32) → (Nat → Int32) → (Nat → Int32) → Prop} {e p q r l m i s g s2 g2 w : Nat} {x2 x3 V x5 : Int32} {sz mk ht sd : Int32} {a1 a2 a3 a4 a5 a6 a7 a8 a9 a10 a11 a12 a13 a14 a15 a16 a17 a18 a19 a20 : Nat → Int32} (hI : zr_I e p q r l m V (i + 1) s g s2 g2 w sz sd a1 a2 a3 a4 a5 a7 a11 a12 a14 a15 a16 a17 a18 a19) (hJ : ∀ (s g s2 g2 w : Nat) (sd : Int32) (a11 a15 a16 a17 a18 a19 a20 : Nat → Int32), zr_I e p q r l m V (i + 1) s g s2 g2 w sz sd a1 a2 a3 a4 a5 a7 a11 a12 a14 a15 a16 a17 a18 a19 → J (nI s) (nI g) (nI s2) (nI g2) (nI (i + 1)) sz mk ht sd a1 a2 a3 a4 a5 a6 a7 a8 a9 a10 a11 a12 a13 a14 a15 a16 a17 a18 a19 a20) : wL_lawOf_653 post mc ms J x2 x3 V x5 (nI p) (nI q) (nI r) (nI l) (nI m) (nI (e - 1)) (nI s) (nI g) (nI s2) (nI g2) (nI i) kc ks sz mk ht sd a1 a2 a3 a4 a5 a6 a7 a8 a9 a10 a11 a12 a13 a14 a15 a16 a17 a18 a19 a20 := by
  have hI' := hI
  obtain ⟨hT, ⟨hp, hq, hr, hpq, hqr, hpr, hl, hm⟩, _, hsd, ⟨b1, b2, b3, b4, b5, b6, b7, b8⟩, ⟨q1, q2, q3, q4, q5⟩, ⟨r1, r2, r3, r4, r5⟩⟩ := hI'
  unfold wL_lawOf_653
  refine zr_onWay hp hq (br_t (by rw [q4, pk_sub q1]) (zr_onWay hq hr (br_t (by rw [r4, pk_sub r1]) (zr_onWay hq hp (br_t b8 ?_)))))
  refine br_t (by rw [hsd, nI_add]) ?_
  exact zr_finish (k := e + 2) (by have := hT.1; omega) hT.2.1 (zr_TN hT) b6 (b5 0 (by omega)) (zr_I_11 hI) (fun a20' => br_t rfl (nm_r (nI_1 i) (hJ _ _ _ _ _ _ _ _ _ _ _ _ _ hI)))
theorem zr_256 {post : Int32 → St0 → Prop} {mc ms kc ks : Nat} {J : Int32 → Int32 → Int32 → Int32 → Int32 → Int32 → Int32 → Int32 → Int32 → (Nat → Int32) → (Nat → Int32) → (Nat → Int32) → (Nat → Int32) → (Nat → Int32) → (Nat → Int32) → (Nat → Int32) → (Nat → Int32) → (Nat → Int32) → (Nat → Int32) → (Nat → Int32) → (Nat → Int32) → (Nat → Int32) → (Nat → Int32) → (Nat → Int32) → (Nat → Int32) → (Nat → Int32) → (Nat → Int32) → (Nat → Int32) → (Nat → Int32) → Prop} {e p q r l m i s g s2 g2 w : Nat} {x2 x3 V x5 : Int32} {sz mk ht sd : Int32} {a1 a2 a3 a4 a5 a6 a7 a8 a9 a10 a11 a12 a13 a14 a15 a16 a17 a18 a19 a20 : Nat → Int32} (hI : zr_I e p q r l m V i s g s2 g2 w sz sd a1 a2 a3 a4 a5 a7 a11 a12 a14 a15 a16 a17 a18 a19) (hJ : ∀ (s g s2 g2 w : Nat) (sd : Int32) (a11 a15 a16 a17 a18 a19 a20 : Nat → Int32), zr_I e p q r l m V (i + 1) s g s2 g2 w sz sd a1 a2 a3 a4 a5 a7 a11 a12 a14 a15 a16 a17 a18 a19 → J (nI s) (nI g) (nI s2) (nI g2) (nI (i + 1)) sz mk ht sd a1 a2 a3 a4 a5 a6 a7 a8 a9 a10 a11 a12 a13 a14 a15 a16 a17 a18 a19 a20) : wL_lawOf_256 post mc ms J x2 x3 V x5 (nI p) (nI q) (nI r) (nI l) (nI m) (nI (e - 1)) (nI s) (nI g) (nI s2) (nI g2) (nI i) (nI (s - g)) kc ks sz mk ht sd a1 a2 a3 a4 a5 a6 a7 a8 a9 a10 a11 a12 a13 a14 a15 a16 a17 a18 a19 a20 := by
  have hat := zr_I_at hI
  have hI' := hI
  obtain ⟨hT, hP, _, hsd, ⟨b1, b2, b3, b4, b5, b6, b7, b8⟩, ⟨q1, q2, q3, q4, q5⟩, _⟩ := hI'
  have h4 : a4 e = nI l := hT.2.2.2.2.2.2.2.2.2.1
  by_cases hk : s - g = 4
  · have c4 : (4 : Int32) ≤ nI (s - g) := nI_le (a := 4) (by omega) (by omega)
    unfold wL_lawOf_256
    refine zr_state_s hat b1 q4 (by omega) (fun _ => br_t c4 (br_t rfl (zr_partner_s hat b1 (br_t rfl (zr_send_full hat b1 (by rw [q4, hk]) (br_t c4 (br_t rfl (br_t c4 ?_)))))))) (fun z => absurd z (by omega))
    exact zr_653 (zr_I_next hI) hJ
  · have c4 : ¬ (4 : Int32) ≤ nI (s - g) := nI_ge (b := 4) (by omega) (by omega)
    have hk' : s - g < 4 := by omega
    unfold wL_lawOf_256
    refine zr_state_s hat b1 q4 (by omega) (fun z => absurd z (by omega)) (fun _ => br_f c4 (br_t rfl (zr_partner_s hat b1 (br_t rfl ?_))))
    refine zr_send_ok (d := e) hat b1 h4 (h := g % 4) (by omega) hk' (by have := hP.2.2.2.2.2.2.1; omega) q3 q4 (by have := hT.1; omega) (fun P hp => zr_go_p hT hP hp) (br_f c4 (br_t rfl (br_f c4 (nm_r (nI_1 s) ?_))))
    exact zr_653 (zr_I_psend hI hk') hJ
theorem zr_368a {post : Int32 → St0 → Prop} {mc ms kc ks : Nat} {J : Int32 → Int32 → Int32 → Int32 → Int32 → Int32 → Int32 → Int32 → Int32 → (Nat → Int32) → (Nat → Int32) → (Nat → Int32) → (Nat → Int32) → (Nat → Int32) → (Nat → Int32) → (Nat → Int32) → (Nat → Int32) → (Nat → Int32) → (Nat → Int32) → (Nat → Int32) → (Nat → Int32) → (Nat → Int32) → (Nat → Int32) → (Nat → Int32) → (Nat → Int32) → (Nat → Int32) → (Nat → Int32) → (Nat → Int32) → (Nat → Int32) → Prop} {e p q r l m i s g s2 g2 w : Nat} {x2 x3 V x5 : Int32} {sz mk ht sd : Int32} {a1 a2 a3 a4 a5 a6 a7 a8 a9 a10 a11 a12 a13 a14 a15 a16 a17 a18 a19 a20 : Nat → Int32} (hI : zr_I e p q r l m V i s g s2 g2 w sz sd a1 a2 a3 a4 a5 a7 a11 a12 a14 a15 a16 a17 a18 a19) (hJ : ∀ (s g s2 g2 w : Nat) (sd : Int32) (a11 a15 a16 a17 a18 a19 a20 : Nat → Int32), zr_I e p q r l m V (i + 1) s g s2 g2 w sz sd a1 a2 a3 a4 a5 a7 a11 a12 a14 a15 a16 a17 a18 a19 → J (nI s) (nI g) (nI s2) (nI g2) (nI (i + 1)) sz mk ht sd a1 a2 a3 a4 a5 a6 a7 a8 a9 a10 a11 a12 a13 a14 a15 a16 a17 a18 a19 a20) (he : e = 2) (hg : g = s2 + 1) {x20 : Int32} : (s2 - g2 = 4 → wL_lawOf_368 post mc ms J x2 x3 V x5 (nI p) (nI q) (nI r) (nI l) (nI m) (nI (e - 1)) (nI s) (nI g) (nI s2) (nI g2) (nI i) x20 1 2 kc ks sz mk ht sd a1 a2 a3 a4 a5 a6 a7 a8 a9 a10 a11 a12 a13 a14 a15 a16 a17 a18 a19 a20) ∧ (s2 - g2 < 4 → wL_lawOf_368 post mc ms J x2 x3 V x5 (nI p) (nI q) (nI r) (nI l) (nI m) (nI (e - 1)) (nI s) (nI g) (nI s2) (nI g2) (nI i) x20 1 1 kc ks sz mk ht sd a1 a2 a3 a4 a5 a6 a7 a8 a9 a10 a11 a12 a13 a14 a15 a16 a17 a18 a19 a20) := by
  have hat := zr_I_at2 hI he
  have hI' := hI
  obtain ⟨hT, hP, ⟨_, _, c3⟩, hsd, ⟨b1, b2, b3, b4, b5, b6, b7, b8⟩, _, ⟨r1, r2, r3, r4, r5⟩⟩ := hI'
  have hw : w = 1 := by omega
  subst hw
  have x : ¬ (1 : Int32) = 0 := by decide
  have fin : ∀ z0 : Int32, wpX_partner (fun r_732 => ((((1 : Int32) = 0 → (wL_lawOf_401 post mc ms J x2 x3 V x5 (nI p) (nI q) (nI r) (nI l) (nI m) (nI (e - 1)) (nI s) (nI g) (nI s2) (nI g2) (nI i) x20 1 (nI p) r_732 kc ks sz mk ht sd a1 a2 a3 a4 a5 a6 a7 a8 a9 a10 a11 a12 a13 a14 a15 a16 a17 a18 a19 a20)) ∧ (¬ (1 : Int32) = 0 → (wL_lawOf_401 post mc ms J x2 x3 V x5 (nI p) (nI q) (nI r) (nI l) (nI m) (nI (e - 1)) (nI s) (nI g) (nI s2) (nI g2) (nI i) x20 1 (nI r) r_732 kc ks sz mk ht sd a1 a2 a3 a4 a5 a6 a7 a8 a9 a10 a11 a12 a13 a14 a15 a16 a17 a18 a19 a20))))) (sz, mk, ht, sd, a1, a2, a3, a4, a5, a6, a7, a8, a9, a10, a11, a12, a13, a14, a15, a16, a17, a18, a19, a20) (nI q) := by
    intro z0
    refine zr_partner_s hat b2 (br_f x (br_t rfl (zr_rec_s hat b2 (br_f x (br_t rfl (br_f x (br_f x ?_)))))))
    exact zr_653 (zr_I_next hI) hJ
  exact ⟨fun hk => zr_state_s hat b2 r4 (by omega) (fun _ => br_t rfl (fin 2)) (fun z => absurd z (by omega)), fun hk => zr_state_s hat b2 r4 (by omega) (fun z => absurd z (by omega)) (fun _ => br_t rfl (fin 1))⟩
theorem zr_368b {post : Int32 → St0 → Prop} {mc ms kc ks : Nat} {J : Int32 → Int32 → Int32 → Int32 → Int32 → Int32 → Int32 → Int32 → Int32 → (Nat → Int32) → (Nat → Int32) → (Nat → Int32) → (Nat → Int32) → (Nat → Int32) → (Nat → Int32) → (Nat → Int32) → (Nat → Int32) → (Nat → Int32) → (Nat → Int32) → (Nat → Int32) → (Nat → Int32) → (Nat → Int32) → (Nat → Int32) → (Nat → Int32) → (Nat → Int32) → (Nat → Int32) → (Nat → Int32) → (Nat → Int32) → (Nat → Int32) → Prop} {e p q r l m i s g s2 g2 w : Nat} {x2 x3 V x5 : Int32} {sz mk ht sd : Int32} {a1 a2 a3 a4 a5 a6 a7 a8 a9 a10 a11 a12 a13 a14 a15 a16 a17 a18 a19 a20 : Nat → Int32} (hI : zr_I e p q r l m V i s g s2 g2 w sz sd a1 a2 a3 a4 a5 a7 a11 a12 a14 a15 a16 a17 a18 a19) (hJ : ∀ (s g s2 g2 w : Nat) (sd : Int32) (a11 a15 a16 a17 a18 a19 a20 : Nat → Int32), zr_I e p q r l m V (i + 1) s g s2 g2 w sz sd a1 a2 a3 a4 a5 a7 a11 a12 a14 a15 a16 a17 a18 a19 → J (nI s) (nI g) (nI s2) (nI g2) (nI (i + 1)) sz mk ht sd a1 a2 a3 a4 a5 a6 a7 a8 a9 a10 a11 a12 a13 a14 a15 a16 a17 a18 a19 a20) (hg : e = 1 ∨ g = s2) : (s - g = 0 → wL_lawOf_368 post mc ms J x2 x3 V x5 (nI p) (nI q) (nI r) (nI l) (nI m) (nI (e - 1)) (nI s) (nI g) (nI s2) (nI g2) (nI i) (nI (s - g)) 0 4 kc ks sz mk ht sd a1 a2 a3 a4 a5 a6 a7 a8 a9 a10 a11 a12 a13 a14 a15 a16 a17 a18 a19 a20) ∧ (0 < s - g → wL_lawOf_368 post mc ms J x2 x3 V x5 (nI p) (nI q) (nI r) (nI l) (nI m) (nI (e - 1)) (nI s) (nI g) (nI s2) (nI g2) (nI i) (nI (s - g)) 0 3 kc ks sz mk ht sd a1 a2 a3 a4 a5 a6 a7 a8 a9 a10 a11 a12 a13 a14 a15 a16 a17 a18 a19 a20) := by
  have hat := zr_I_at hI
  have hI' := hI
  obtain ⟨hT, hP, ⟨_, _, c3⟩, hsd, ⟨b1, b2, b3, b4, b5, b6, b7, b8⟩, ⟨q1, q2, q3, q4, q5⟩, _⟩ := hI'
  have hP' := hP
  obtain ⟨hp, hq, hr, hpq, hqr, hpr, hl, hm⟩ := hP'
  have hw : w = e := by omega
  subst hw
  constructor
  · intro hk
    have c : nI (s - g) ≤ 0 := by rw [hk]; decide
    unfold wL_lawOf_368
    refine zr_state_r hat b2 q4 (by omega) (fun _ => br_t rfl (zr_partner_r hat b2 (br_t rfl (br_t rfl ?_)))) (fun z => absurd z (by omega))
    refine zr_rec_e hat b2 (by rw [q4, hk]) (br_t rfl (br_t c (br_t rfl (br_t rfl (br_t c (br_t rfl (br_t c ?_)))))))
    exact zr_653 (zr_I_next hI) hJ
  · intro hk
    obtain ⟨k, hk'⟩ : ∃ k, s - g = k + 1 := ⟨s - g - 1, by omega⟩
    have c : ¬ nI (s - g) ≤ 0 := nI_nle hk (by omega)
    obtain ⟨v1, v2⟩ := q5 g (by omega) (by omega)
    unfold wL_lawOf_368
    refine zr_state_r hat b2 q4 (by omega) (fun z => absurd z (by omega)) (fun _ => br_t rfl (zr_partner_r hat b2 (br_t rfl (br_t rfl ?_))))
    refine zr_rec_ok (d := 1) (k := k) (h := g % 4) hat b2 (by omega) (by omega) q3 (by rw [q4, hk']) (by omega) (fun P hp => zr_go_q hT hp) (br_t rfl (br_f c (br_t v1 (br_t rfl (br_f c ?_)))))
    refine zr_got hq (br_t (pk_us.trans v2) (br_t rfl (br_f c (nm_r (nI_1 g) ?_))))
    exact zr_653 (zr_I_qrec hI hk' hg) hJ
theorem zr_548 {post : Int32 → St0 → Prop} {mc ms kc ks : Nat} {J : Int32 → Int32 → Int32 → Int32 → Int32 → Int32 → Int32 → Int32 → Int32 → (Nat → Int32) → (Nat → Int32) → (Nat → Int32) → (Nat → Int32) → (Nat → Int32) → (Nat → Int32) → (Nat → Int32) → (Nat → Int32) → (Nat → Int32) → (Nat → Int32) → (Nat → Int32) → (Nat → Int32) → (Nat → Int32) → (Nat → Int32) → (Nat → Int32) → (Nat → Int32) → (Nat → Int32) → (Nat → Int32) → (Nat → Int32) → (Nat → Int32) → Prop} {e p q r l m i s g s2 g2 w : Nat} {x2 x3 V x5 : Int32} {sz mk ht sd : Int32} {a1 a2 a3 a4 a5 a6 a7 a8 a9 a10 a11 a12 a13 a14 a15 a16 a17 a18 a19 a20 : Nat → Int32} (hI : zr_I e p q r l m V i s g s2 g2 w sz sd a1 a2 a3 a4 a5 a7 a11 a12 a14 a15 a16 a17 a18 a19) (hJ : ∀ (s g s2 g2 w : Nat) (sd : Int32) (a11 a15 a16 a17 a18 a19 a20 : Nat → Int32), zr_I e p q r l m V (i + 1) s g s2 g2 w sz sd a1 a2 a3 a4 a5 a7 a11 a12 a14 a15 a16 a17 a18 a19 → J (nI s) (nI g) (nI s2) (nI g2) (nI (i + 1)) sz mk ht sd a1 a2 a3 a4 a5 a6 a7 a8 a9 a10 a11 a12 a13 a14 a15 a16 a17 a18 a19 a20) : wL_lawOf_548 post mc ms J x2 x3 V x5 (nI p) (nI q) (nI r) (nI l) (nI m) (nI (e - 1)) (nI s) (nI g) (nI s2) (nI g2) (nI i) (nI (s2 - g2)) kc ks sz mk ht sd a1 a2 a3 a4 a5 a6 a7 a8 a9 a10 a11 a12 a13 a14 a15 a16 a17 a18 a19 a20 := by
  have hI' := hI
  obtain ⟨hT, hP, ⟨_, c2, c3⟩, hsd, ⟨b1, b2, b3, b4, b5, b6, b7, b8⟩, _, ⟨r1, r2, r3, r4, r5⟩⟩ := hI'
  have hP' := hP
  obtain ⟨hp, hq, hr, hpq, hqr, hpr, hl, hm⟩ := hP'
  rcases hT.1 with z | z
  · have c : nI (s2 - g2) ≤ 0 := by rw [show s2 - g2 = 0 by have := c2 z; omega]; decide
    have x : nI (e - 1) = 0 := by rw [z]; rfl
    unfold wL_lawOf_548
    refine zr_state_o hr (b3 z) (br_t x (br_t rfl (zr_partner_o hr (b3 z) (br_t x (br_t rfl (zr_rec_o hr (b3 z) (br_t c (br_t rfl (br_t c (br_t c ?_))))))))))
    exact zr_653 (zr_I_next hI) hJ
  · have hat := zr_I_at2 hI z
    have b4' := b4 z
    have x : ¬ nI (e - 1) = 0 := by rw [z]; decide
    rcases Nat.eq_zero_or_pos (s2 - g2) with hk | hk
    · have c : nI (s2 - g2) ≤ 0 := by rw [hk]; decide
      unfold wL_lawOf_548
      refine zr_state_r hat b4' r4 (by omega) (fun _ => br_f x (br_t c (br_t rfl (zr_partner_r hat b4' (br_f x (br_t rfl ?_)))))) (fun z => absurd z (by omega))
      refine zr_rec_e hat b4' (by rw [r4, hk]) (br_t c (br_t rfl (br_t c (br_t c ?_))))
      exact zr_653 (zr_I_next hI) hJ
    · obtain ⟨k, hk'⟩ : ∃ k, s2 - g2 = k + 1 := ⟨s2 - g2 - 1, by omega⟩
      have c : ¬ nI (s2 - g2) ≤ 0 := nI_nle hk (by omega)
      obtain ⟨v1, v2⟩ := r5 g2 (by omega) (by omega)
      unfold wL_lawOf_548
      refine zr_state_r hat b4' r4 (by omega) (fun z => absurd z (by omega)) (fun _ => br_f x (br_f c (br_t rfl (zr_partner_r hat b4' (br_f x (br_t rfl ?_))))))
      refine zr_rec_ok (d := 1) (k := k) (h := g2 % 4) hat b4' (by omega) (by omega) r3 (by rw [r4, hk']) (by omega) (fun P hp => zr_go_r hT hP z hp) (br_f c (br_t v1 (br_f c ?_)))
      refine zr_got hr (br_t (pk_us.trans v2) (br_f c (nm_r (nI_1 g2) ?_)))
      exact zr_653 (zr_I_rrec hI hk' z) hJ
end
section
/-! the law's loop -/
theorem zr_qs {post : Int32 → St0 → Prop} {mc ms kc ks : Nat} {J : Int32 → Int32 → Int32 → Int32 → Int32 → Int32 → Int32 → Int32 → Int32 → (Nat → Int32) → (Nat → Int32) → (Nat → Int32) → (Nat → Int32) → (Nat → Int32) → (Nat → Int32) → (Nat → Int32) → (Nat → Int32) → (Nat → Int32) → (Nat → Int32) → (Nat → Int32) → (Nat → Int32) → (Nat → Int32) → (Nat → Int32) → (Nat → Int32) → (Nat → Int32) → (Nat → Int32) → (Nat → Int32) → (Nat → Int32) → (Nat → Int32) → Prop} {e p q r l m i s g s2 g2 w : Nat} {x2 x3 V x5 : Int32} {sz mk ht sd : Int32} {a1 a2 a3 a4 a5 a6 a7 a8 a9 a10 a11 a12 a13 a14 a15 a16 a17 a18 a19 a20 : Nat → Int32} {y bz : Int32} (hI : zr_I e p q r l m V i s g s2 g2 w sz sd a1 a2 a3 a4 a5 a7 a11 a12 a14 a15 a16 a17 a18 a19) (hJ : ∀ (s g s2 g2 w : Nat) (sd : Int32) (a11 a15 a16 a17 a18 a19 a20 : Nat → Int32), zr_I e p q r l m V (i + 1) s g s2 g2 w sz sd a1 a2 a3 a4 a5 a7 a11 a12 a14 a15 a16 a17 a18 a19 → J (nI s) (nI g) (nI s2) (nI g2) (nI (i + 1)) sz mk ht sd a1 a2 a3 a4 a5 a6 a7 a8 a9 a10 a11 a12 a13 a14 a15 a16 a17 a18 a19 a20) (he : e = 2) (hy : (y = 1 ∧ e = 2 ∧ g = s2 + 1) ∨ (y = 0 ∧ (e = 1 ∨ g = s2))) :
    wpX_send (fun r_657 u => match u with | (fm0_size_658, fm0_made_659, fm0_height_660, fm0_sendings_661, am5161_664, am5162_667, am5163_670, am5164_673, am5165_676, am5166_679, am5167_682, am5168_685, am5169_688, am51610_691, am51611_694, am51612_697, am51613_700, am51614_703, am51615_706, am51616_709, am51617_712, am51618_715, am51619_718, am51620_721) => (((y = 0 → (wL_lawOf_524 post mc ms J x2 x3 V x5 (nI p) (nI q) (nI r) (nI l) (nI m) (nI (e - 1)) (nI s) (nI g) (nI s2) (nI g2) (nI i) (nI (s2 - g2)) y r_657 kc ks fm0_size_658 fm0_made_659 fm0_height_660 fm0_sendings_661 am5161_664 am5162_667 am5163_670 am5164_673 am5165_676 am5166_679 am5167_682 am5168_685 am5169_688 am51610_691 am51611_694 am51612_697 am51613_700 am51614_703 am51615_706 am51616_709 am51617_712 am51618_715 am51619_718 am51620_721)) ∧ (¬ y = 0 → (((4 ≤ nI (s2 - g2) → (wL_lawOf_524 post mc ms J x2 x3 V x5 (nI p) (nI q) (nI r) (nI l) (nI m) (nI (e - 1)) (nI s) (nI g) (nI s2) (nI g2) (nI i) (nI (s2 - g2)) y r_657 kc ks fm0_size_658 fm0_made_659 fm0_height_660 fm0_sendings_661 am5161_664 am5162_667 am5163_670 am5164_673 am5165_676 am5166_679 am5167_682 am5168_685 am5169_688 am51610_691 am51611_694 am51612_697 am51613_700 am51614_703 am51615_706 am51616_709 am51617_712 am51618_715 am51619_718 am51620_721)) ∧ (¬ 4 ≤ nI (s2 - g2) → (wL_lawOf_526 post mc ms J x2 x3 V x5 (nI p) (nI q) (nI r) (nI l) (nI m) (nI (e - 1)) (nI s) (nI g) (nI s2) (nI g2) (nI i) (nI (s2 - g2)) y (nI m) r_657 kc ks fm0_size_658 fm0_made_659 fm0_height_660 fm0_sendings_661 am5161_664 am5162_667 am5163_670 am5164_673 am5165_676 am5166_679 am5167_682 am5168_685 am5169_688 am51610_691 am51611_694 am51612_697 am51613_700 am51614_703 am51615_706 am51616_709 am51617_712 am51618_715 am51619_718 am51620_721)))))))) (sz, mk, ht, sd, a1, a2, a3, a4, a5, a6, a7, a8, a9, a10, a11, a12, a13, a14, a15, a16, a17, a18, a19, a20) (nI q) bz (V - nI s2) := by
  have hI' := hI
  obtain ⟨hT, hP, ⟨_, c2, c3⟩, hsd, ⟨b1, b2, b3, b4, b5, b6, b7, b8⟩, _, ⟨r1, r2, r3, r4, r5⟩⟩ := hI'
  rcases hy with ⟨hy, _, hg⟩ | ⟨hy, hg⟩
  · have hat := zr_I_at2 hI he
    have hw : w = 1 := by omega
    subst hw
    have y0 : ¬ y = 0 := by rw [hy]; decide
    by_cases hk : s2 - g2 = 4
    · have c4 : (4 : Int32) ≤ nI (s2 - g2) := nI_le (a := 4) (by omega) (by omega)
      refine zr_send_full hat b2 (by rw [r4, hk]) (br_f y0 (br_t c4 (br_t rfl (br_f y0 (br_t c4 ?_)))))
      exact zr_653 (zr_I_next hI) hJ
    · have c4 : ¬ (4 : Int32) ≤ nI (s2 - g2) := nI_ge (b := 4) (by omega) (by omega)
      have hk' : s2 - g2 < 4 := by omega
      obtain ⟨h1, h2, h3, h4, h5⟩ := hT.2.2.2.2.2.2.2.2.2.2.2 he
      refine zr_send_ok (d := 2) hat b2 h4 (h := g2 % 4) (by omega) hk' (by have := hP.2.2.2.2.2.2.2; omega) r3 r4 (by omega) (fun P hp => zr_go_q1 hT he hp) (br_f y0 (br_f c4 (br_t rfl (br_f y0 (br_f c4 (nm_r (nI_1 s2) ?_))))))
      exact zr_653 (zr_I_qsend hI hk' he hg) hJ
  · have hat := zr_I_at hI
    have hw : w = e := by omega
    subst hw
    refine zr_send_not hat b2 (br_t hy (br_t rfl (br_t hy ?_)))
    exact zr_653 (zr_I_next hI) hJ
theorem zr_333 {post : Int32 → St0 → Prop} {mc ms kc ks : Nat} {J : Int32 → Int32 → Int32 → Int32 → Int32 → Int32 → Int32 → Int32 → Int32 → (Nat → Int32) → (Nat → Int32) → (Nat → Int32) → (Nat → Int32) → (Nat → Int32) → (Nat → Int32) → (Nat → Int32) → (Nat → Int32) → (Nat → Int32) → (Nat → Int32) → (Nat → Int32) → (Nat → Int32) → (Nat → Int32) → (Nat → Int32) → (Nat → Int32) → (Nat → Int32) → (Nat → Int32) → (Nat → Int32) → (Nat → Int32) → (Nat → Int32) → Prop} {e p q r l m i s g s2 g2 w : Nat} {x2 x3 V x5 : Int32} {sz mk ht sd : Int32} {a1 a2 a3 a4 a5 a6 a7 a8 a9 a10 a11 a12 a13 a14 a15 a16 a17 a18 a19 a20 : Nat → Int32} {o : Nat} {y : Int32} (hI : zr_I e p q r l m V i s g s2 g2 w sz sd a1 a2 a3 a4 a5 a7 a11 a12 a14 a15 a16 a17 a18 a19) (hJ : ∀ (s g s2 g2 w : Nat) (sd : Int32) (a11 a15 a16 a17 a18 a19 a20 : Nat → Int32), zr_I e p q r l m V (i + 1) s g s2 g2 w sz sd a1 a2 a3 a4 a5 a7 a11 a12 a14 a15 a16 a17 a18 a19 → J (nI s) (nI g) (nI s2) (nI g2) (nI (i + 1)) sz mk ht sd a1 a2 a3 a4 a5 a6 a7 a8 a9 a10 a11 a12 a13 a14 a15 a16 a17 a18 a19 a20) (ho : o < 4) (hy : (y = 1 ∧ e = 2 ∧ g = s2 + 1) ∨ (y = 0 ∧ (e = 1 ∨ g = s2))) :
    wL_lawOf_333 post mc ms J x2 x3 V x5 (nI p) (nI q) (nI r) (nI l) (nI m) (nI (e - 1)) (nI s) (nI g) (nI s2) (nI g2) (nI i) (nI o) (nI (s - g)) (nI (s2 - g2)) y kc ks sz mk ht sd a1 a2 a3 a4 a5 a6 a7 a8 a9 a10 a11 a12 a13 a14 a15 a16 a17 a18 a19 a20 := by
  have hI' := hI
  obtain ⟨hT, _, _, _, _, ⟨q1, q2, _⟩, ⟨r1, r2, _⟩⟩ := hI'
  refine pk_le 3 o (fun _ => ?_) (fun _ => ?_)
  · rcases hT.1 with z | z
    · exact br_t (by rw [z]; rfl) (zr_548 hI hJ)
    · exact br_f (by rw [z]; decide) (br_c (fun _ => zr_qs hI hJ z hy) (fun _ => zr_548 hI hJ))
  · rcases hy with ⟨hy, h2, hg⟩ | ⟨hy, hg⟩
    · subst hy
      obtain ⟨f4, f1⟩ := zr_368a (kc := kc) (ks := ks) hI hJ h2 hg (x20 := nI (s - g))
      exact br_f (by decide) (pk_le 4 (s2 - g2) (fun z => f4 (by omega)) (fun z => f1 z))
    · subst hy
      obtain ⟨f4, f3⟩ := zr_368b (kc := kc) (ks := ks) hI hJ hg
      exact br_t rfl (pk_le (s - g) 0 (fun z => f4 (by omega)) (fun z => f3 z))
theorem zr_230 {post : Int32 → St0 → Prop} {mc ms kc ks : Nat} {J : Int32 → Int32 → Int32 → Int32 → Int32 → Int32 → Int32 → Int32 → Int32 → (Nat → Int32) → (Nat → Int32) → (Nat → Int32) → (Nat → Int32) → (Nat → Int32) → (Nat → Int32) → (Nat → Int32) → (Nat → Int32) → (Nat → Int32) → (Nat → Int32) → (Nat → Int32) → (Nat → Int32) → (Nat → Int32) → (Nat → Int32) → (Nat → Int32) → (Nat → Int32) → (Nat → Int32) → (Nat → Int32) → (Nat → Int32) → (Nat → Int32) → Prop} {e p q r l m i s g s2 g2 w : Nat} {x2 x3 V x5 : Int32} {sz mk ht sd : Int32} {a1 a2 a3 a4 a5 a6 a7 a8 a9 a10 a11 a12 a13 a14 a15 a16 a17 a18 a19 a20 : Nat → Int32} {o : Nat} {y : Int32} (hI : zr_I e p q r l m V i s g s2 g2 w sz sd a1 a2 a3 a4 a5 a7 a11 a12 a14 a15 a16 a17 a18 a19) (hJ : ∀ (s g s2 g2 w : Nat) (sd : Int32) (a11 a15 a16 a17 a18 a19 a20 : Nat → Int32), zr_I e p q r l m V (i + 1) s g s2 g2 w sz sd a1 a2 a3 a4 a5 a7 a11 a12 a14 a15 a16 a17 a18 a19 → J (nI s) (nI g) (nI s2) (nI g2) (nI (i + 1)) sz mk ht sd a1 a2 a3 a4 a5 a6 a7 a8 a9 a10 a11 a12 a13 a14 a15 a16 a17 a18 a19 a20) (ho : o < 4) (hy : (y = 1 ∧ e = 2 ∧ g = s2 + 1) ∨ (y = 0 ∧ (e = 1 ∨ g = s2))) :
    wL_lawOf_230 post mc ms J x2 x3 V x5 (nI p) (nI q) (nI r) (nI l) (nI m) (nI (e - 1)) (nI s) (nI g) (nI s2) (nI g2) (nI i) (nI o) (nI (s - g)) (nI (s2 - g2)) y kc ks sz mk ht sd a1 a2 a3 a4 a5 a6 a7 a8 a9 a10 a11 a12 a13 a14 a15 a16 a17 a18 a19 a20 :=
  br_c (fun _ => zr_256 hI hJ) (fun _ => br_c (fun _ => br_c (fun _ => zr_256 hI hJ) (fun _ => zr_333 hI hJ ho hy)) (fun _ => zr_333 hI hJ ho hy))
theorem zr_195 {post : Int32 → St0 → Prop} {mc ms kc ks : Nat} {J : Int32 → Int32 → Int32 → Int32 → Int32 → Int32 → Int32 → Int32 → Int32 → (Nat → Int32) → (Nat → Int32) → (Nat → Int32) → (Nat → Int32) → (Nat → Int32) → (Nat → Int32) → (Nat → Int32) → (Nat → Int32) → (Nat → Int32) → (Nat → Int32) → (Nat → Int32) → (Nat → Int32) → (Nat → Int32) → (Nat → Int32) → (Nat → Int32) → (Nat → Int32) → (Nat → Int32) → (Nat → Int32) → (Nat → Int32) → (Nat → Int32) → Prop} {e p q r l m i s g s2 g2 w : Nat} {x2 x3 V x5 : Int32} {sz mk ht sd : Int32} {a1 a2 a3 a4 a5 a6 a7 a8 a9 a10 a11 a12 a13 a14 a15 a16 a17 a18 a19 a20 : Nat → Int32} {z : Int32} (hI : zr_I e p q r l m V i s g s2 g2 w sz sd a1 a2 a3 a4 a5 a7 a11 a12 a14 a15 a16 a17 a18 a19) (hi : i < 40) (hJ : ∀ (s g s2 g2 w : Nat) (sd : Int32) (a11 a15 a16 a17 a18 a19 a20 : Nat → Int32), zr_I e p q r l m V (i + 1) s g s2 g2 w sz sd a1 a2 a3 a4 a5 a7 a11 a12 a14 a15 a16 a17 a18 a19 → J (nI s) (nI g) (nI s2) (nI g2) (nI (i + 1)) sz mk ht sd a1 a2 a3 a4 a5 a6 a7 a8 a9 a10 a11 a12 a13 a14 a15 a16 a17 a18 a19 a20) : wL_lawOf_195 post mc ms J x2 x3 V x5 (nI p) (nI q) (nI r) (nI l) (nI m) (nI (e - 1)) (nI s) (nI g) (nI s2) (nI g2) (nI i) z kc ks sz mk ht sd a1 a2 a3 a4 a5 a6 a7 a8 a9 a10 a11 a12 a13 a14 a15 a16 a17 a18 a19 a20 := by
  have hI' := hI
  obtain ⟨hT, _, ⟨c1, c2, c3⟩, _, _, ⟨q1, q2, _⟩, ⟨r1, r2, _⟩⟩ := hI'
  obtain ⟨o, ho, eo⟩ := pk_andE z (m := 3) 2 (by decide)
  refine nm_r eo (nm_r (pk_sub q1) (nm_r (pk_sub r1) ?_))
  by_cases h1 : e = 1
  · exact br_t (by rw [h1]; rfl) (zr_230 hI hJ ho (Or.inr ⟨rfl, Or.inl h1⟩))
  · have h2 : e = 2 := by have := hT.1; omega
    have x : ¬ nI (e - 1) = 0 := by rw [h2]; decide
    refine br_f x (pk_le g s2 (fun z => zr_230 hI hJ ho (Or.inr ⟨rfl, Or.inr (by omega)⟩)) (fun z => zr_230 hI hJ ho (Or.inl ⟨rfl, h2, by omega⟩)))
theorem zr_167 {post : Int32 → St0 → Prop} {mc ms kc ks : Nat} {e p q r l m : Nat} {x2 x3 V x5 sz mk ht : Int32} {a1 a2 a3 a4 a5 a6 a7 a8 a9 a10 a12 a13 a14 : Nat → Int32} (hpost : post 1 ()) :
    ∀ (d i s g s2 g2 w : Nat) (sd : Int32) (a11 a15 a16 a17 a18 a19 a20 : Nat → Int32), i + d = 40 → zr_I e p q r l m V i s g s2 g2 w sz sd a1 a2 a3 a4 a5 a7 a11 a12 a14 a15 a16 a17 a18 a19 →
      wL_lawOf_167 post mc ms x2 x3 V x5 (nI p) (nI q) (nI r) (nI l) (nI m) (nI (e - 1)) kc ks (d + 1) (nI s) (nI g) (nI s2) (nI g2) (nI i) sz mk ht sd a1 a2 a3 a4 a5 a6 a7 a8 a9 a10 a11 a12 a13 a14 a15 a16 a17 a18 a19 a20 := by
  intro d
  induction d with
  | zero =>
    intro i s g s2 g2 w sd a11 a15 a16 a17 a18 a19 a20 hi hI
    obtain ⟨hT, ⟨hp, hq, hr, hpq, hqr, hpr, hl, hm⟩, _, hsd, ⟨b1, b2, b3, b4, b5, b6, b7, b8⟩, ⟨q1, q2, q3, q4, q5⟩, ⟨r1, r2, r3, r4, r5⟩⟩ := hI
    have n1 : ¬ (4 : Int32) < a17 (3 * p + q) := by rw [q4]; exact nI_nlt (a := 4) (by omega) (by omega)
    have n2 : ¬ (4 : Int32) < a17 (3 * q + r) := by rw [r4]; exact nI_nlt (a := 4) (by omega) (by omega)
    exact pk_le 40 i (fun _ => zr_onWay hp hq (br_f n1 (zr_onWay hq hr (br_f n2 (zr_got hp (br_t b7 hpost)))))) (fun z => absurd z (by omega))
  | succ d ih =>
    intro i s g s2 g2 w sd a11 a15 a16 a17 a18 a19 a20 hi hI
    have hJ := fun s g s2 g2 w sd a11 a15 a16 a17 a18 a19 a20 => ih (i + 1) s g s2 g2 w sd a11 a15 a16 a17 a18 a19 a20 (by omega)
    exact pk_le 40 i (fun z => absurd z (by omega)) (fun _ => pk_le 20 i (fun _ => zr_195 hI (by omega) hJ) (fun _ => zr_195 hI (by omega) hJ))
end
section
/-! restart, init, make, again, message, loop -/
theorem zr_fill {f : Nat → Int32} {i k : Nat} {x : Int32} {v : Nat → Int32} (hk : k = i) (h : ∀ j, j < i → f j = v j) (hx : x = v i) : ∀ j, j < i + 1 → upd f k x j = v j := by
  intro j hj
  rw [hk]
  by_cases e : j = i
  · rw [e, pk_us, hx]
  · rw [pk_un e]
    exact h j (by omega)
theorem zr_rs56 {post : St2 → Prop} {sz mk ht sd : Int32} {a1 a2 a3 a4 a5 a6 a7 a8 a9 a10 a11 a12 a13 a14 a15 a16 a17 a18 a19 a20 : Nat → Int32} (hp : ∀ b16 b17 : Nat → Int32, (∀ j, j < 9 → b16 j = 0) → (∀ j, j < 9 → b17 j = 0) → post (sz, mk, ht, 0, a1, a2, a3, a4, a5, a6, a7, a8, a9, a10, a11, a12, a13, a14, a15, b16, b17, a18, a19, a20)) :
    ∃ n, wX_restart_56 post sz mk ht sd n 0 a1 a2 a3 a4 a5 a6 a7 a8 a9 a10 a11 a12 a13 a14 a15 a16 a17 a18 a19 a20 := by
  have main : ∀ d i (a16 a17 : Nat → Int32), i + d = 9 → (∀ j, j < i → a16 j = 0) → (∀ j, j < i → a17 j = 0) → wX_restart_56 post sz mk ht sd (d + 1) (nI i) a1 a2 a3 a4 a5 a6 a7 a8 a9 a10 a11 a12 a13 a14 a15 a16 a17 a18 a19 a20 := by
    intro d
    induction d with
    | zero =>
      intro i a16 a17 hi h1 h2
      have z : i = 9 := by omega
      subst z
      exact pk_le 9 9 (fun _ => hp _ _ h1 h2) (fun z => absurd z (by omega))
    | succ d ih =>
      intro i a16 a17 hi h1 h2
      have e : (nI i).toNatClampNeg = i := nI_clamp (by omega)
      exact pk_le 9 i (fun z => absurd z (by omega)) (fun _ => ⟨pk_in i 9 (by omega), nm_e ⟨pk_in i 9 (by omega), nm_e (nm_r (nI_1 i) (ih (i + 1) _ _ (by omega) (zr_fill (v := fun _ => 0) e h1 rfl) (zr_fill (v := fun _ => 0) e h2 rfl)))⟩⟩)
  exact ⟨10, main 9 0 a16 a17 rfl (fun j hj => absurd hj (by omega)) (fun j hj => absurd hj (by omega))⟩
theorem zr_restart {post : St2 → Prop} {sz mk ht sd : Int32} {a1 a2 a3 a4 a5 a6 a7 a8 a9 a10 a11 a12 a13 a14 a15 a16 a17 a18 a19 a20 : Nat → Int32} (v : Nat → Int32)
    (hl : ∀ (j : Nat) (P : Int32 → Prop) (a11 a12 a14 a15 : Nat → Int32), j < 3 → P (v j) → wpX_localFrom P (sz, mk, ht, sd, a1, a2, a3, a4, a5, a6, a7, a8, a9, a10, a11, a12, a13, a14, a15, a16, a17, a18, a19, a20) (nI j) (sz - 1))
    (hp : ∀ b11 b12 b14 b15 b16 b17 : Nat → Int32, (∀ j, j < 3 → b11 j = (v j).toInt8.toInt32) → (∀ j, j < 3 → b12 j = 0) → (∀ j, j < 3 → b14 j = 0) → (∀ j, j < 3 → b15 j = 0) → (∀ j, j < 9 → b16 j = 0) → (∀ j, j < 9 → b17 j = 0) →
      post (sz, mk, ht, 0, a1, a2, a3, a4, a5, a6, a7, a8, a9, a10, b11, b12, a13, b14, b15, b16, b17, a18, a19, a20)) :
    wpX_restart post (sz, mk, ht, sd, a1, a2, a3, a4, a5, a6, a7, a8, a9, a10, a11, a12, a13, a14, a15, a16, a17, a18, a19, a20) := by
  have main : ∀ d i (a11 a12 a14 a15 : Nat → Int32), i + d = 3 → (∀ j, j < i → a11 j = (v j).toInt8.toInt32) → (∀ j, j < i → a12 j = 0) → (∀ j, j < i → a14 j = 0) → (∀ j, j < i → a15 j = 0) → wX_restart_2 post sz mk ht sd (d + 1) (nI i) a1 a2 a3 a4 a5 a6 a7 a8 a9 a10 a11 a12 a13 a14 a15 a16 a17 a18 a19 a20 := by
    intro d
    induction d with
    | zero =>
      intro i a11 a12 a14 a15 hi h1 h2 h3 h4
      have z : i = 3 := by omega
      subst z
      exact pk_le 3 3 (fun _ => zr_rs56 (fun b16 b17 h5 h6 => hp _ _ _ _ _ _ h1 h2 h3 h4 h5 h6)) (fun z => absurd z (by omega))
    | succ d ih =>
      intro i a11 a12 a14 a15 hi h1 h2 h3 h4
      have e : (nI i).toNatClampNeg = i := nI_clamp (by omega)
      refine pk_le 3 i (fun z => absurd z (by omega)) (fun _ => hl i _ a11 a12 a14 a15 (by omega) ?_)
      refine ⟨pk_in i 3 (by omega), nm_e ⟨pk_in i 3 (by omega), nm_e ⟨pk_in i 3 (by omega), nm_e ⟨pk_in i 3 (by omega), nm_e (nm_r (nI_1 i) ?_)⟩⟩⟩⟩
      exact ih (i + 1) _ _ _ _ (by omega) (zr_fill (v := fun j => (v j).toInt8.toInt32) e h1 rfl) (zr_fill (v := fun _ => 0) e h2 rfl) (zr_fill (v := fun _ => 0) e h3 rfl) (zr_fill (v := fun _ => 0) e h4 rfl)
  exact ⟨4, main 3 0 a11 a12 a14 a15 rfl (fun j hj => absurd hj (by omega)) (fun j hj => absurd hj (by omega)) (fun j hj => absurd hj (by omega)) (fun j hj => absurd hj (by omega))⟩
/-- at the very start: the end comes at once -/
theorem zr_lf_end {post : Int32 → Prop} {sz mk ht sd : Int32} {a1 a2 a3 a4 a5 a6 a7 a8 a9 a10 a11 a12 a13 a14 a15 a16 a17 a18 a19 a20 : Nat → Int32} {ro : Int32} (h : a1 0 = 0) (hp : post (-1)) : wpX_localFrom post (sz, mk, ht, sd, a1, a2, a3, a4, a5, a6, a7, a8, a9, a10, a11, a12, a13, a14, a15, a16, a17, a18, a19, a20) ro (nI 0) := by
  have e : (nI 0).toNatClampNeg = 0 := nI_clamp (by omega)
  have g : a1 (nI 0).toNatClampNeg = 0 := by rw [e, h]
  have c : wX_walk_4 (fun r_1 => (∃ fu9 : Nat, wX_localFrom_9 post ro sz mk ht sd a1 a2 a3 a4 a5 a6 a7 a8 a9 a10 a11 a12 a13 a14 a15 a16 a17 a18 a19 a20 fu9 r_1 0)) sz mk ht sd a1 a2 a3 a4 a5 a6 a7 a8 a9 a10 a11 a12 a13 a14 a15 a16 a17 a18 a19 a20 1 (nI 0) (nI 0) := by
    refine pk_le 40 0 (fun z => absurd z (by omega)) (fun _ => ⟨pk_in 0 40 (by omega), br_t (by rw [g]; decide) ⟨1, ?_⟩⟩)
    refine pk_lt 20 0 (fun z => absurd z (by omega)) (fun _ => ⟨pk_in 0 40 (by omega), br_f (by rw [g]; decide) ⟨pk_in 0 40 (by omega), br_f (by rw [g]; decide) ⟨pk_in 0 40 (by omega), br_t g hp⟩⟩⟩)
  exact ⟨1, c⟩
theorem zr_init {post : St2 → Prop} {mc ms : Nat} (hc : 20 ≤ mc) (hs : 485 ≤ ms)
    (hp : ∀ a11 a12 a14 a15 a16 a17 : Nat → Int32, post (1, 0, 0, 0, fun _ => 0, fun _ => 0, fun _ => 0, fun _ => 0, fun _ => 0, fun _ => 0, fun _ => 0, fun _ => 0, fun _ => 0, fun _ => 0, a11, a12, fun _ => 0, a14, a15, a16, a17, fun _ => 0, fun _ => 0, fun _ => 0)) :
    wpX_init post mc ms (0, 0, 0, 0) := by
  unfold wpX_init
  refine ⟨by omega, by omega, by omega, by omega, by omega, by omega, by omega, by omega, by omega, by omega, by omega, by omega, by omega, by omega, by omega, by omega, by omega, by omega, by omega, by omega, by omega, by omega, by omega, by omega, by omega, by omega, by omega, by omega, by omega, by omega, by omega, by omega, by omega, by omega, by omega, by omega, by omega, by omega, by omega, by omega, ?_⟩
  exact zr_restart (fun _ => -1) (fun j P _ _ _ _ _ hP => zr_lf_end rfl hP) (fun b11 b12 b14 b15 b16 b17 _ _ _ _ _ _ => hp _ _ _ _ _ _)
theorem zr_nar {n : Nat} (h : n < 128) : vp_nar .byte (nI n) = nI n := by rw [vp_nar_byte, zr_b n h]
theorem zr_nar0 : vp_nar .byte 0 = nI 0 := zr_nar (n := 0) (by omega)
theorem zr_make0 {post : Int32 → St2 → Prop} {sz mk ht sd : Int32} {a1 a2 a3 a4 a5 a6 a7 a8 a9 a10 a11 a12 a13 a14 a15 a16 a17 a18 a19 a20 : Nat → Int32} {k K A B C : Nat} (hmk : mk = nI k) (hht : ht = nI 0) (hk : k < 20) (hK : K < 128) (hA : A < 128) (hB : B < 128) (hC : C < 128)
    (hp : post (nI 1) (sz, nI (k + 1), nI 1, sd, upd a1 (20 + k) (nI K), upd a2 (20 + k) (nI A), upd a3 (20 + k) (nI B), upd a4 (20 + k) (nI C), upd a5 (20 + k) (nI 0), upd a6 (20 + k) (nI 0), a7, upd a8 0 (nI k), a9, a10, a11, a12, a13, a14, a15, a16, a17, a18, a19, a20)) :
    wpX_make post (sz, mk, ht, sd, a1, a2, a3, a4, a5, a6, a7, a8, a9, a10, a11, a12, a13, a14, a15, a16, a17, a18, a19, a20) (nI K) (nI A) (nI B) (nI C) (nI 0) := by
  subst hmk hht
  have e : (nI (20 + k)).toNatClampNeg = 20 + k := nI_clamp (by omega)
  have e0 : (nI 0).toNatClampNeg = 0 := nI_clamp (by omega)
  have i := fun {A : Prop} (h : A) => And.intro (pk_in (x := nI (20 + k)) (20 + k) 40 (by omega)) h
  refine nm_r (nI_add 20 k) (nm_r (e' := nI 0) (by decide) (i (nm_r (by rw [e, zr_b _ hK]) (i (nm_r (by rw [e, zr_b _ hA]) (i (nm_r (by rw [e, zr_b _ hB]) (i (nm_r (by rw [e, zr_b _ hC]) (br_t (by decide) ?_))))))))))
  refine i (nm_r (by rw [e, zr_nar0]) (br_t (by decide) ?_))
  exact i (nm_r (by rw [e, zr_nar0]) ⟨pk_in 0 20 (by omega), nm_r (by rw [e0, zr_b _ (by omega)]) (nm_r (nI_1 0) (nm_r (nI_1 k) hp))⟩)
theorem zr_make1 {post : Int32 → St2 → Prop} {sz mk ht sd : Int32} {a1 a2 a3 a4 a5 a6 a7 a8 a9 a10 a11 a12 a13 a14 a15 a16 a17 a18 a19 a20 : Nat → Int32} {k K A B C D : Nat} (hmk : mk = nI k) (hht : ht = nI 1) (hk : k < 20) (hK : K < 128) (hA : A < 128) (hB : B < 128) (hC : C < 128) (hD : D < 128) (h8 : a8 0 = nI D)
    (hp : post (nI 1) (sz, nI (k + 1), nI 1, sd, upd a1 (20 + k) (nI K), upd a2 (20 + k) (nI A), upd a3 (20 + k) (nI B), upd a4 (20 + k) (nI C), upd a5 (20 + k) (nI D), upd a6 (20 + k) (nI 0), a7, upd a8 0 (nI k), a9, a10, a11, a12, a13, a14, a15, a16, a17, a18, a19, a20)) :
    wpX_make post (sz, mk, ht, sd, a1, a2, a3, a4, a5, a6, a7, a8, a9, a10, a11, a12, a13, a14, a15, a16, a17, a18, a19, a20) (nI K) (nI A) (nI B) (nI C) (nI 1) := by
  subst hmk hht
  have e : (nI (20 + k)).toNatClampNeg = 20 + k := nI_clamp (by omega)
  have e0 : (nI 0).toNatClampNeg = 0 := nI_clamp (by omega)
  have i := fun {A : Prop} (h : A) => And.intro (pk_in (x := nI (20 + k)) (20 + k) 40 (by omega)) h
  refine nm_r (nI_add 20 k) (nm_r (e' := nI 0) (by decide) (i (nm_r (by rw [e, zr_b _ hK]) (i (nm_r (by rw [e, zr_b _ hA]) (i (nm_r (by rw [e, zr_b _ hB]) (i (nm_r (by rw [e, zr_b _ hC]) (br_f (by decide) ⟨pk_in 0 20 (by omega), ?_⟩))))))))))
  refine i (nm_r (by rw [e, e0, h8, zr_nar hD]) (br_t (by decide) ?_))
  exact i (nm_r (by rw [e, zr_nar0]) ⟨pk_in 0 20 (by omega), nm_r (by rw [e0, zr_b _ (by omega)]) (nm_r (nI_1 0) (nm_r (nI_1 k) hp))⟩)
theorem zr_again {post : Int32 → St2 → Prop} {sz mk ht sd : Int32} {a1 a2 a3 a4 a5 a6 a7 a8 a9 a10 a11 a12 a13 a14 a15 a16 a17 a18 a19 a20 : Nat → Int32} {k t : Nat} (hmk : mk = nI k) (hht : ht = nI 0) (hk : k < 20) (ht2 : t < 2)
    (hp : post (nI 1) (sz, nI (k + 1), nI 1, sd, upd a1 (20 + k) (nI 4), upd a2 (20 + k) (nI t), upd a3 (20 + k) (nI 0), upd a4 (20 + k) (nI 0), upd a5 (20 + k) (nI 0), upd a6 (20 + k) (nI 0), a7, upd a8 0 (nI k), a9, a10, a11, a12, a13, a14, a15, a16, a17, a18, a19, a20)) :
    wpX_again post (sz, mk, ht, sd, a1, a2, a3, a4, a5, a6, a7, a8, a9, a10, a11, a12, a13, a14, a15, a16, a17, a18, a19, a20) (nI t) := by
  refine br_f (nI_pos (by omega)) (br_t (nI_le (b := 1) (by omega) (by omega)) (br_f (by rw [hmk]; exact zr_ne (b := 20) (by omega) (by omega) (by omega)) ?_))
  exact zr_make0 (K := 4) (B := 0) (C := 0) hmk hht hk (by omega) (by omega) (by omega) (by omega) hp
theorem zr_message {post : Int32 → St2 → Prop} {sz mk ht sd : Int32} {a1 a2 a3 a4 a5 a6 a7 a8 a9 a10 a11 a12 a13 a14 a15 a16 a17 a18 a19 a20 : Nat → Int32} {k a b l D : Nat} (hmk : mk = nI k) (hht : ht = nI 1) (hk : k < 20) (ha : a < 3) (hb : b < 3) (hab : a ≠ b) (hl : l < 4) (hD : D < 128) (h8 : a8 0 = nI D)
    (hp : post (nI 1) (sz, nI (k + 1), nI 1, sd, upd a1 (20 + k) (nI 1), upd a2 (20 + k) (nI a), upd a3 (20 + k) (nI b), upd a4 (20 + k) (nI l), upd a5 (20 + k) (nI D), upd a6 (20 + k) (nI 0), a7, upd a8 0 (nI k), a9, a10, a11, a12, a13, a14, a15, a16, a17, a18, a19, a20)) :
    wpX_message post (sz, mk, ht, sd, a1, a2, a3, a4, a5, a6, a7, a8, a9, a10, a11, a12, a13, a14, a15, a16, a17, a18, a19, a20) (nI a) (nI b) (nI l) := by
  unfold wpX_message
  refine zr_bad ha (br_t rfl (zr_bad hb (br_t rfl (br_f (zr_ne (by omega) (by omega) hab) (br_f (nI_pos (by omega)) (br_t (nI_le (b := 3) (by omega) (by omega)) (br_f (by rw [hmk]; exact zr_ne (b := 20) (by omega) (by omega) (by omega)) (br_t (by rw [hht]; decide) ?_))))))))
  exact zr_make1 (K := 1) hmk hht hk (by omega) (by omega) (by omega) (by omega) hD h8 hp
theorem zr_loop {post : Int32 → St2 → Prop} {sz mk ht sd : Int32} {a1 a2 a3 a4 a5 a6 a7 a8 a9 a10 a11 a12 a13 a14 a15 a16 a17 a18 a19 a20 : Nat → Int32} {k t D : Nat} (hmk : mk = nI k) (hht : ht = nI 1) (hk : k < 20) (ht2 : t < 2) (hD : D < 128) (h8 : a8 0 = nI D)
    (hp : post (nI 1) (sz, nI (k + 1), nI 1, sd, upd a1 (20 + k) (nI 3), upd a2 (20 + k) (nI t), upd a3 (20 + k) (nI 0), upd a4 (20 + k) (nI 0), upd a5 (20 + k) (nI D), upd a6 (20 + k) (nI 0), a7, upd a8 0 (nI k), a9, a10, a11, a12, a13, a14, a15, a16, a17, a18, a19, a20)) :
    wpX_loop post (sz, mk, ht, sd, a1, a2, a3, a4, a5, a6, a7, a8, a9, a10, a11, a12, a13, a14, a15, a16, a17, a18, a19, a20) (nI t) := by
  refine br_f (nI_pos (by omega)) (br_t (nI_le (b := 1) (by omega) (by omega)) (br_f (by rw [hmk]; exact zr_ne (b := 20) (by omega) (by omega) (by omega)) (br_t (by rw [hht]; decide) ?_)))
  exact zr_make1 (K := 3) (B := 0) (C := 0) hmk hht hk (by omega) (by omega) (by omega) (by omega) hD h8 hp
end
section
/-! surround, badLoops, protocol -/
theorem zr_2x (c j : Nat) : 2 * nI c + nI j = nI (2 * c + j) := by
  rw [show (2 : Int32) = nI 2 from rfl, pk_mul, nI_add]
theorem zr_sur_loop {post : St2 → Prop} {sz mk ht sd : Int32} {a1 a2 a3 a4 a5 a6 a7 a8 a9 a10 a11 a12 a13 a14 a15 a16 a17 a18 a19 a20 : Nat → Int32} {c w t : Nat} (hc : c < 20) (hw : w < 20) (ht2 : t < 2) (h1 : a1 (20 + w) = 3) (h2 : a2 (20 + w) = nI t)
    (hp : ∀ b9 b10 : Nat → Int32, b9 (2 * c + t) = nI w → post (sz, mk, ht, sd, a1, a2, a3, a4, a5, a6, a7, a8, b9, b10, a11, a12, a13, a14, a15, a16, a17, a18, a19, a20)) : wpX_surround post (sz, mk, ht, sd, a1, a2, a3, a4, a5, a6, a7, a8, a9, a10, a11, a12, a13, a14, a15, a16, a17, a18, a19, a20) (nI c) (nI w) := by
  have e : (nI (20 + w)).toNatClampNeg = 20 + w := nI_clamp (by omega)
  have g1 : a1 (nI (20 + w)).toNatClampNeg = 3 := by rw [e, h1]
  have g2 : a2 (nI (20 + w)).toNatClampNeg = nI t := by rw [e, h2]
  have x : 2 * nI c + a2 (nI (20 + w)).toNatClampNeg = nI (2 * c + t) := by rw [g2, zr_2x]
  have xe : (nI (2 * c + t)).toNatClampNeg = 2 * c + t := nI_clamp (by omega)
  have iw := fun {A : Prop} (h : A) => And.intro (pk_in (x := nI (20 + w)) (20 + w) 40 (by omega)) h
  have ix := fun {A : Prop} (h : A) => And.intro (pk_in (x := 2 * nI c + a2 (nI (20 + w)).toNatClampNeg) (2 * c + t) 40 (by omega) x) h
  have main : ∀ d j (a9 a10 : Nat → Int32), j + d = 2 → wX_surround_25 post (nI c) (nI w) (nI (20 + w)) 0 sz mk ht sd (d + 1) (nI j) a1 a2 a3 a4 a5 a6 a7 a8 a9 a10 a11 a12 a13 a14 a15 a16 a17 a18 a19 a20 := by
    intro d
    induction d with
    | zero =>
      intro j a9 a10 hj
      refine pk_le 2 j (fun _ => iw (br_t g1 (iw (ix (nm_r (by rw [x, xe, zr_b _ (by omega)]) (iw (ix (nm_e (hp _ _ pk_us))))))))) (fun z => absurd z (by omega))
    | succ d ih =>
      intro j a9 a10 hj
      have hn := fun b9 b10 => ih (j + 1) b9 b10 (by omega)
      have ip := fun {A : Prop} (h : A) => And.intro (pk_in (x := 2 * nI c + nI j) (2 * c + j) 40 (by omega) (zr_2x c j)) h
      have iq := fun {A : Prop} (h : A) => And.intro (pk_in (x := 2 * nI w + nI j) (2 * w + j) 40 (by omega) (zr_2x w j)) h
      refine pk_le 2 j (fun z => absurd z (by omega)) (fun _ => iq (ip (nm_e (iq (br_c (fun _ => br_t rfl (ip (nm_e (nm_r (nI_1 j) (hn _ _))))) (fun _ => ip (nm_e (nm_r (nI_1 j) (hn _ _)))))))))
  exact nm_r (nI_add 20 w) (iw (br_t g1 ⟨3, main 2 0 a9 a10 rfl⟩))
theorem zr_sur_msg {post : St2 → Prop} {sz mk ht sd : Int32} {a1 a2 a3 a4 a5 a6 a7 a8 a9 a10 a11 a12 a13 a14 a15 a16 a17 a18 a19 a20 : Nat → Int32} {c w t : Nat} (hc : c < 20) (hw : w < 20) (ht2 : t < 2) (hcw : c ≠ w) (h1 : a1 (20 + w) = 1)
    (hp : ∀ b9 b10 : Nat → Int32, b9 (2 * c + t) = vp_nar .byte (a9 (2 * w + t)) → b10 (2 * c + t) = 1 → post (sz, mk, ht, sd, a1, a2, a3, a4, a5, a6, a7, a8, b9, b10, a11, a12, a13, a14, a15, a16, a17, a18, a19, a20)) : wpX_surround post (sz, mk, ht, sd, a1, a2, a3, a4, a5, a6, a7, a8, a9, a10, a11, a12, a13, a14, a15, a16, a17, a18, a19, a20) (nI c) (nI w) := by
  have e : (nI (20 + w)).toNatClampNeg = 20 + w := nI_clamp (by omega)
  have g1 : ¬ a1 (nI (20 + w)).toNatClampNeg = 3 := by rw [e, h1]; decide
  have iw := fun {A : Prop} (h : A) => And.intro (pk_in (x := nI (20 + w)) (20 + w) 40 (by omega)) h
  have main : ∀ d j (b9 b10 : Nat → Int32), j + d = 2 → (t < j → b9 (2 * c + t) = vp_nar .byte (a9 (2 * w + t)) ∧ b10 (2 * c + t) = 1) → (∀ y, y < 2 → b9 (2 * w + y) = a9 (2 * w + y)) →
      wX_surround_25 post (nI c) (nI w) (nI (20 + w)) 1 sz mk ht sd (d + 1) (nI j) a1 a2 a3 a4 a5 a6 a7 a8 b9 b10 a11 a12 a13 a14 a15 a16 a17 a18 a19 a20 := by
    intro d
    induction d with
    | zero =>
      intro j b9 b10 hj h2 _
      obtain ⟨h3, h4⟩ := h2 (by omega)
      exact pk_le 2 j (fun _ => iw (br_f g1 (hp _ _ h3 h4))) (fun z => absurd z (by omega))
    | succ d ih =>
      intro j b9 b10 hj h2 h3
      have fc : (nI (2 * c + j)).toNatClampNeg = 2 * c + j := nI_clamp (by omega)
      have fw : (nI (2 * w + j)).toNatClampNeg = 2 * w + j := nI_clamp (by omega)
      have ip := fun {A : Prop} (h : A) => And.intro (pk_in (x := 2 * nI c + nI j) (2 * c + j) 40 (by omega) (zr_2x c j)) h
      have iq := fun {A : Prop} (h : A) => And.intro (pk_in (x := 2 * nI w + nI j) (2 * w + j) 40 (by omega) (zr_2x w j)) h
      have hn : wX_surround_25 post (nI c) (nI w) (nI (20 + w)) 1 sz mk ht sd (d + 1) (nI (j + 1)) a1 a2 a3 a4 a5 a6 a7 a8 (upd b9 (2 * c + j) (vp_nar .byte (b9 (2 * w + j)))) (upd b10 (2 * c + j) 1) a11 a12 a13 a14 a15 a16 a17 a18 a19 a20 := by
        refine ih (j + 1) _ _ (by omega) (fun z => ?_) (fun y hy => ?_)
        · by_cases tj : t = j
          · subst tj
            rw [pk_us, pk_us, h3 t ht2]
            exact ⟨rfl, rfl⟩
          · rw [pk_un (by omega), pk_un (by omega)]
            exact h2 (by omega)
        · rw [pk_un (by omega)]
          exact h3 y hy
      refine pk_le 2 j (fun z => absurd z (by omega)) (fun _ => iq (ip (nm_r (by rw [zr_2x, zr_2x, fc, fw]) (iq (br_c (fun _ => br_f (by decide) (ip (nm_r (by rw [zr_2x, fc]) (nm_r (nI_1 j) hn)))) (fun _ => ip (nm_r (by rw [zr_2x, fc]) (nm_r (nI_1 j) hn))))))))
  exact nm_r (nI_add 20 w) (iw (br_f g1 ⟨3, main 2 0 a9 a10 rfl (fun z => absurd z (by omega)) (fun y _ => rfl)⟩))
theorem zr_bl_loop {post : Int32 → St2 → Prop} {sz mk ht sd : Int32} {a1 a2 a3 a4 a5 a6 a7 a8 a9 a10 a11 a12 a13 a14 a15 a16 a17 a18 a19 a20 : Nat → Int32} {n i c t : Nat} (hi : i < 19) (hc : c < 20) (ht2 : t < 2) (h1 : a1 (20 + (i + 1)) = 3) (h2 : a2 (20 + (i + 1)) = nI t) (h5 : a5 (20 + (i + 1)) = nI c)
    (hp : ∀ b9 b10 : Nat → Int32, b9 (2 * c + t) = nI (i + 1) → wX_badLoops_54 post n 0 (nI i) sz mk ht sd a1 a2 a3 a4 a5 a6 a7 a8 b9 b10 a11 a12 a13 a14 a15 a16 a17 a18 a19 a20) :
    wX_badLoops_54 post (n + 1) 0 (nI (i + 1)) sz mk ht sd a1 a2 a3 a4 a5 a6 a7 a8 a9 a10 a11 a12 a13 a14 a15 a16 a17 a18 a19 a20 := by
  have e : (nI (20 + (i + 1))).toNatClampNeg = 20 + (i + 1) := nI_clamp (by omega)
  have iw := fun {A : Prop} (h : A) => And.intro (pk_in (x := nI (20 + (i + 1))) (20 + (i + 1)) 40 (by omega)) h
  refine br_f (nI_pos (by omega)) (nm_r (nI_add 20 (i + 1)) (iw (nm_r (e' := 3) (by rw [e, h1]) (br_f (by decide) (br_f (by decide) (br_t rfl (iw ?_)))))))
  rw [e, h5]
  exact zr_sur_loop hc (by omega) ht2 h1 h2 (fun b9 b10 h => br_f (by decide) (br_f (by decide) (nm_r (pk_m1 i) (hp b9 b10 h))))
theorem zr_bl_msg {post : Int32 → St2 → Prop} {sz mk ht sd : Int32} {a1 a2 a3 a4 a5 a6 a7 a8 a9 a10 a11 a12 a13 a14 a15 a16 a17 a18 a19 a20 : Nat → Int32} {n i c t v : Nat} (hi : i < 19) (hc : c < i + 1) (ht2 : t < 2) (hv : v < 128) (h1 : a1 (20 + (i + 1)) = 1) (h5 : a5 (20 + (i + 1)) = nI c) (h9 : a9 (2 * (i + 1) + t) = nI v)
    (hp : ∀ b9 b10 : Nat → Int32, b9 (2 * c + t) = nI v → b10 (2 * c + t) = 1 → wX_badLoops_54 post n 0 (nI i) sz mk ht sd a1 a2 a3 a4 a5 a6 a7 a8 b9 b10 a11 a12 a13 a14 a15 a16 a17 a18 a19 a20) :
    wX_badLoops_54 post (n + 1) 0 (nI (i + 1)) sz mk ht sd a1 a2 a3 a4 a5 a6 a7 a8 a9 a10 a11 a12 a13 a14 a15 a16 a17 a18 a19 a20 := by
  have e : (nI (20 + (i + 1))).toNatClampNeg = 20 + (i + 1) := nI_clamp (by omega)
  have iw := fun {A : Prop} (h : A) => And.intro (pk_in (x := nI (20 + (i + 1))) (20 + (i + 1)) 40 (by omega)) h
  refine br_f (nI_pos (by omega)) (nm_r (nI_add 20 (i + 1)) (iw (nm_r (e' := 1) (by rw [e, h1]) (br_t rfl (iw ?_)))))
  rw [e, h5]
  exact zr_sur_msg (t := t) (by omega) (by omega) ht2 (by omega) h1 (fun b9 b10 h h' => br_f (by decide) (br_f (by decide) (nm_r (pk_m1 i) (hp b9 b10 (by rw [h, h9, zr_nar hv]) h'))))
theorem zr_bl_again {post : Int32 → St2 → Prop} {sz mk ht sd : Int32} {a1 a2 a3 a4 a5 a6 a7 a8 a9 a10 a11 a12 a13 a14 a15 a16 a17 a18 a19 a20 : Nat → Int32} {n t v : Nat} (ht2 : t < 2) (hv : v < 128) (h1 : a1 20 = 4) (h2 : a2 20 = nI t) (h9 : a9 t = nI v) (h10 : a10 t = 1) (hp : post 0 (sz, mk, ht, sd, a1, a2, a3, a4, a5, a6, a7, a8, a9, a10, a11, a12, a13, a14, a15, a16, a17, a18, a19, a20)) :
    wX_badLoops_54 post (n + 2) 0 (nI 0) sz mk ht sd a1 a2 a3 a4 a5 a6 a7 a8 a9 a10 a11 a12 a13 a14 a15 a16 a17 a18 a19 a20 := by
  have e : (nI 20).toNatClampNeg = 20 := nI_clamp (by omega)
  have et : (nI t).toNatClampNeg = t := nI_clamp (by omega)
  have h0 : narrow .boolean (.int 0) = .int 0 := by rfl
  have iw := fun {A : Prop} (h : A) => And.intro (pk_in (x := nI 20) 20 40 (by omega)) h
  have it := fun {A : Prop} (h : A) => And.intro (pk_in (x := nI t) t 40 (by omega)) h
  refine br_f (nI_pos (by omega)) (nm_r (e' := nI 20) rfl (iw (nm_r (e' := 4) (by rw [e, h1]) (br_f (by decide) (br_f (by decide) (br_f (by decide) (br_f (by decide) (br_t rfl (iw (nm_r (e' := nI t) (by rw [e, h2, zr_2x, show 2 * 0 + t = t by omega]) (br_t rfl (it (br_f (by rw [et, h9]; exact nI_pos (by omega)) (it (br_f (by rw [et, h10]; decide) (nm_r (e' := -1) (by decide) ?_))))))))))))))))
  exact br_t (by decide) ⟨h0, hp⟩
/-- the terms being made -/
def zr_M (e p q r l m t : Nat) (a1 a2 a3 a4 a5 : Nat → Int32) : Prop :=
  (e = 1 ∨ e = 2) ∧ t < 2 ∧ a1 20 = 4 ∧ a2 20 = nI t ∧ a1 (20 + (e + 1)) = 3 ∧ a2 (20 + (e + 1)) = nI t ∧ a5 (20 + (e + 1)) = nI e ∧
  a1 (20 + e) = 1 ∧ a2 (20 + e) = nI p ∧ a3 (20 + e) = nI q ∧ a4 (20 + e) = nI l ∧ a5 (20 + e) = nI (e - 1) ∧
  (e = 2 → a1 21 = 1 ∧ a2 21 = nI q ∧ a3 21 = nI r ∧ a4 21 = nI m ∧ a5 21 = nI 0)
theorem zr_bl54 {post : Int32 → St2 → Prop} {sz mk ht sd : Int32} {a1 a2 a3 a4 a5 a6 a7 a8 a9 a10 a11 a12 a13 a14 a15 a16 a17 a18 a19 a20 : Nat → Int32} {e p q r l m t : Nat} (h : zr_M e p q r l m t a1 a2 a3 a4 a5)
    (hp : ∀ b9 b10 : Nat → Int32, b9 t = nI (e + 1) → post 0 (sz, mk, ht, sd, a1, a2, a3, a4, a5, a6, a7, a8, b9, b10, a11, a12, a13, a14, a15, a16, a17, a18, a19, a20)) : ∃ n, wX_badLoops_54 post n 0 (nI (e + 1)) sz mk ht sd a1 a2 a3 a4 a5 a6 a7 a8 a9 a10 a11 a12 a13 a14 a15 a16 a17 a18 a19 a20 := by
  obtain ⟨he, ht2, h4, h2, k1, k2, k5, m1, m2, m3, m4, m5, hm⟩ := h
  rcases he with z | z
  · subst z
    refine ⟨4, zr_bl_loop (i := 1) (c := 1) (by omega) (by omega) ht2 k1 k2 k5 (fun b9 b10 h9 => zr_bl_msg (i := 0) (c := 0) (t := t) (v := 2) (by omega) (by omega) ht2 (by omega) m1 m5 h9 (fun c9 c10 i9 i10 => ?_))⟩
    rw [show 2 * 0 + t = t by omega] at i9 i10
    exact zr_bl_again ht2 (v := 2) (by omega) h4 h2 i9 i10 (hp _ _ i9)
  · subst z
    obtain ⟨n1, n2, n3, n4, n5⟩ := hm rfl
    refine ⟨5, zr_bl_loop (i := 2) (c := 2) (by omega) (by omega) ht2 k1 k2 k5 (fun b9 b10 h9 => zr_bl_msg (i := 1) (c := 1) (t := t) (v := 3) (by omega) (by omega) ht2 (by omega) m1 m5 h9 (fun c9 c10 i9 i10 => zr_bl_msg (i := 0) (c := 0) (t := t) (v := 3) (by omega) (by omega) ht2 (by omega) n1 n5 i9 (fun d9 d10 j9 j10 => ?_)))⟩
    rw [show 2 * 0 + t = t by omega] at j9 j10
    exact zr_bl_again ht2 (v := 3) (by omega) h4 h2 j9 j10 (hp _ _ j9)
theorem zr_badLoops {post : Int32 → St2 → Prop} {sz mk ht sd : Int32} {a1 a2 a3 a4 a5 a6 a7 a8 a9 a10 a11 a12 a13 a14 a15 a16 a17 a18 a19 a20 : Nat → Int32} {e p q r l m t : Nat} (h : zr_M e p q r l m t a1 a2 a3 a4 a5) (hmk : mk = nI (e + 2))
    (hp : ∀ b9 b10 : Nat → Int32, b9 t = nI (e + 1) → post 0 (sz, mk, ht, sd, a1, a2, a3, a4, a5, a6, a7, a8, b9, b10, a11, a12, a13, a14, a15, a16, a17, a18, a19, a20)) : wpX_badLoops post (sz, mk, ht, sd, a1, a2, a3, a4, a5, a6, a7, a8, a9, a10, a11, a12, a13, a14, a15, a16, a17, a18, a19, a20) := by
  subst hmk
  have he := h.1
  have m1 : nI (e + 2) - 1 = nI (e + 1) := nI_pred (e + 1)
  have main : ∀ d j (a9 a10 : Nat → Int32), j + d = 2 → wX_badLoops_4 post 0 sz (nI (e + 2)) ht sd (d + 1) (nI j) a1 a2 a3 a4 a5 a6 a7 a8 a9 a10 a11 a12 a13 a14 a15 a16 a17 a18 a19 a20 := by
    intro d
    induction d with
    | zero =>
      intro j a9 a10 hj
      exact pk_le 2 j (fun _ => nm_r m1 (zr_bl54 h hp)) (fun z => absurd z (by omega))
    | succ d ih =>
      intro j a9 a10 hj
      have hn := fun b9 b10 => ih (j + 1) b9 b10 (by omega)
      have x : 2 * (nI (e + 2) - 1) + nI j = nI (2 * (e + 1) + j) := by rw [m1, zr_2x]
      have ix := fun {A : Prop} (h : A) => And.intro (pk_in (x := 2 * (nI (e + 2) - 1) + nI j) (2 * (e + 1) + j) 40 (by omega) x) h
      exact pk_le 2 j (fun z => absurd z (by omega)) (fun _ => ix (nm_e (ix (nm_e (nm_r (nI_1 j) (hn _ _))))))
  exact ⟨3, main 2 0 a9 a10 rfl⟩
end
section
/-! the protocol is taken over; every role starts -/
def zr_Y (k : Nat) (a1 a2 a3 a4 a5 b1 b2 b3 b4 b5 : Nat → Int32) : Prop :=
  (∀ j, j < k → b1 j = vp_nar .byte (a1 (20 + j)) ∧ b2 j = vp_nar .byte (a2 (20 + j)) ∧ b3 j = vp_nar .byte (a3 (20 + j)) ∧ b4 j = vp_nar .byte (a4 (20 + j)) ∧ b5 j = vp_nar .byte (a5 (20 + j))) ∧
  (∀ j, 20 ≤ j → b1 j = a1 j ∧ b2 j = a2 j ∧ b3 j = a3 j ∧ b4 j = a4 j ∧ b5 j = a5 j)
theorem zr_Y_s {i : Nat} {a1 a2 a3 a4 a5 b1 b2 b3 b4 b5 : Nat → Int32} (h : zr_Y i a1 a2 a3 a4 a5 b1 b2 b3 b4 b5) (hi : i < 20) :
    zr_Y (i + 1) a1 a2 a3 a4 a5 (upd b1 i (vp_nar .byte (b1 (20 + i)))) (upd b2 i (vp_nar .byte (b2 (20 + i)))) (upd b3 i (vp_nar .byte (b3 (20 + i)))) (upd b4 i (vp_nar .byte (b4 (20 + i)))) (upd b5 i (vp_nar .byte (b5 (20 + i)))) := by
  obtain ⟨h1, h2⟩ := h
  obtain ⟨g1, g2, g3, g4, g5⟩ := h2 (20 + i) (by omega)
  rw [g1, g2, g3, g4, g5]
  refine ⟨fun j hj => ?_, fun j hj => ?_⟩
  · by_cases z : j = i
    · subst z
      exact ⟨pk_us, pk_us, pk_us, pk_us, pk_us⟩
    · rw [pk_un z, pk_un z, pk_un z, pk_un z, pk_un z]
      exact h1 j (by omega)
  · have z : j ≠ i := by omega
    rw [pk_un z, pk_un z, pk_un z, pk_un z, pk_un z]
    exact h2 j hj
theorem zr_p25 {post : Int32 → St2 → Prop} {sz mk ht sd : Int32} {a1 a2 a3 a4 a5 a6 a7 a8 a9 a10 a11 a12 a13 a14 a15 a16 a17 a18 a19 a20 : Nat → Int32} {k t : Nat} (hk : k ≤ 20) (ht2 : t < 2) (hmk : mk = nI k) (h2 : a2 20 = nI t) (h1 : a1 20 = 4) (hA : ∀ i, 0 < i → i < k → ¬ a1 (20 + i) = 4) (hk0 : 0 < k)
    (v : Nat → Int32)
    (hl : ∀ b1 b2 b3 b4 b5 b6 b7 : Nat → Int32, zr_Y k a1 a2 a3 a4 a5 b1 b2 b3 b4 b5 → b7 0 = vp_nar .byte (a9 t) →
      ∀ (j : Nat) (P : Int32 → Prop) (a11 a12 a14 a15 : Nat → Int32), j < 3 → P (v j) → wpX_localFrom P (nI k, 0, 0, sd, b1, b2, b3, b4, b5, b6, b7, a8, a9, a10, a11, a12, a13, a14, a15, a16, a17, a18, a19, a20) (nI j) (nI k - 1))
    (hp : ∀ b1 b2 b3 b4 b5 b6 b7 b11 b12 b14 b15 b16 b17 : Nat → Int32, zr_Y k a1 a2 a3 a4 a5 b1 b2 b3 b4 b5 → b7 0 = vp_nar .byte (a9 t) → (∀ j, j < 3 → b11 j = (v j).toInt8.toInt32) → (∀ j, j < 3 → b12 j = 0) → (∀ j, j < 3 → b14 j = 0) → (∀ j, j < 3 → b15 j = 0) → (∀ j, j < 9 → b16 j = 0) → (∀ j, j < 9 → b17 j = 0) →
      post (nI k) (nI k, 0, 0, 0, b1, b2, b3, b4, b5, b6, b7, a8, a9, a10, b11, b12, a13, b14, b15, b16, b17, a18, a19, a20)) :
    ∃ n, wX_protocol_25 post sz mk ht sd n 0 a1 a2 a3 a4 a5 a6 a7 a8 a9 a10 a11 a12 a13 a14 a15 a16 a17 a18 a19 a20 := by
  subst hmk
  have main : ∀ d i (b1 b2 b3 b4 b5 b6 b7 : Nat → Int32), i + d = k → zr_Y i a1 a2 a3 a4 a5 b1 b2 b3 b4 b5 → (0 < i → b7 0 = vp_nar .byte (a9 t)) →
      wX_protocol_25 post sz (nI k) ht sd (d + 1) (nI i) b1 b2 b3 b4 b5 b6 b7 a8 a9 a10 a11 a12 a13 a14 a15 a16 a17 a18 a19 a20 := by
    intro d
    induction d with
    | zero =>
      intro i b1 b2 b3 b4 b5 b6 b7 hi hY h7
      have z : i = k := by omega
      subst z
      refine pk_le i i (fun _ => ?_) (fun z => absurd z (by omega))
      unfold wpX_discard
      exact zr_restart v (hl _ _ _ _ _ b6 _ hY (h7 hk0)) (fun b11 b12 b14 b15 b16 b17 g1 g2 g3 g4 g5 g6 => hp _ _ _ _ _ b6 _ _ _ _ _ _ _ hY (h7 hk0) g1 g2 g3 g4 g5 g6)
    | succ d ih =>
      intro i b1 b2 b3 b4 b5 b6 b7 hi hY h7
      have e : (nI i).toNatClampNeg = i := nI_clamp (by omega)
      have f : (nI (20 + i)).toNatClampNeg = 20 + i := nI_clamp (by omega)
      have iw := fun {A : Prop} (h : A) => And.intro (pk_in (x := nI (20 + i)) (20 + i) 40 (by omega)) h
      have ii := fun {A : Prop} (h : A) => And.intro (pk_in (x := nI i) i 40 (by omega)) h
      have it := fun {A : Prop} (h : A) => And.intro (pk_in (x := nI i) i 20 (by omega)) h
      have hn := fun b6 b7 => ih (i + 1) _ _ _ _ _ b6 b7 (by omega) (zr_Y_s hY (by omega))
      have c1 : upd b1 i (vp_nar .byte (b1 (20 + i))) (20 + i) = a1 (20 + i) := by rw [pk_un (by omega)]; exact (hY.2 _ (by omega)).1
      have c2 : upd b2 i (vp_nar .byte (b2 (20 + i))) (20 + i) = a2 (20 + i) := by rw [pk_un (by omega)]; exact (hY.2 _ (by omega)).2.1
      refine pk_le k i (fun z => absurd z (by omega)) (fun _ => nm_r (nI_add 20 i) (iw (ii ?_)))
      rw [e, f]
      refine nm_e (iw (ii (nm_e (iw (ii (nm_e (iw (ii (nm_e (iw (ii (nm_e (iw (ii (nm_e (iw ?_))))))))))))))))
      rw [c1, c2]
      by_cases z : i = 0
      · subst z
        refine br_t h1 (iw ⟨pk_in t 40 (by omega) (by rw [h2, zr_2x, show 2 * 0 + t = t by omega]), it (nm_r (e' := upd b7 0 (vp_nar .byte (a9 t))) ?_ (nm_r (nI_1 0) (hn _ _ (fun _ => pk_us))))⟩)
        rw [h2, zr_2x, show 2 * 0 + t = t by omega, nI_clamp (show t < 2 ^ 31 by omega)]
      · refine br_f (hA i (by omega) (by omega)) (it (nm_e (nm_r (nI_1 i) (hn _ _ (fun _ => ?_)))))
        rw [pk_un (by omega)]
        exact h7 (by omega)
  exact ⟨k + 1, main k 0 a1 a2 a3 a4 a5 a6 a7 (by omega) ⟨fun j hj => absurd hj (by omega), fun j _ => ⟨rfl, rfl, rfl, rfl, rfl⟩⟩ (fun z => absurd z (by omega))⟩
theorem zr_MT {e p q r l m t : Nat} {a1 a2 a3 a4 a5 b1 b2 b3 b4 b5 b7 : Nat → Int32} (h : zr_M e p q r l m t a1 a2 a3 a4 a5) (hP : zr_P p q r l m) (hY : zr_Y (e + 2) a1 a2 a3 a4 a5 b1 b2 b3 b4 b5) (h7 : b7 0 = nI (e + 1)) :
    zr_T e p q r l m (nI (e + 2)) b1 b2 b3 b4 b5 b7 := by
  obtain ⟨he, ht2, h4, h2, k1, k2, k5, m1, m2, m3, m4, m5, hm⟩ := h
  obtain ⟨hp, hq, hr, _, _, _, hl, hm'⟩ := hP
  obtain ⟨x1, _⟩ := hY.1 0 (by omega)
  obtain ⟨y1, _, _, _, y5⟩ := hY.1 (e + 1) (by omega)
  obtain ⟨z1, z2, z3, z4, z5⟩ := hY.1 e (by omega)
  have v4 : vp_nar .byte 4 = 4 := zr_nar (n := 4) (by omega)
  have v3 : vp_nar .byte 3 = 3 := zr_nar (n := 3) (by omega)
  have v1 : vp_nar .byte 1 = 1 := zr_nar (n := 1) (by omega)
  refine ⟨he, rfl, by rw [x1]; exact (congrArg _ h4).trans v4, h7, by rw [y1, k1, v3], by rw [y5, k5, zr_nar (by omega)], by rw [z1, m1, v1], by rw [z2, m2, zr_nar (by omega)], by rw [z3, m3, zr_nar (by omega)], by rw [z4, m4, zr_nar (by omega)], by rw [z5, m5, zr_nar (by omega)], fun w => ?_⟩
  obtain ⟨n1, n2, n3, n4, n5⟩ := hm w
  obtain ⟨w1, w2, w3, w4, w5⟩ := hY.1 1 (by omega)
  refine ⟨?_, ?_, ?_, ?_, ?_⟩
  · rw [w1]; exact (congrArg _ n1).trans v1
  · rw [w2]; exact (congrArg _ n2).trans (zr_nar (by omega))
  · rw [w3]; exact (congrArg _ n3).trans (zr_nar (by omega))
  · rw [w4]; exact (congrArg _ n4).trans (zr_nar (by omega))
  · rw [w5]; exact (congrArg _ n5).trans (zr_nar (by omega))
def zr_v (e p q : Nat) : Nat → Int32 := fun j => if j = p ∨ j = q then nI e else if e = 1 then -2 else nI 1
theorem zr_start {P : Int32 → Prop} {sz mk ht sd : Int32} {a1 a2 a3 a4 a5 a6 a7 a8 a9 a10 a11 a12 a13 a14 a15 a16 a17 a18 a19 a20 : Nat → Int32} {e p q r l m j : Nat} (h : zr_T e p q r l m sz a1 a2 a3 a4 a5 a7) (hP : zr_P p q r l m) (hj : j < 3) (hp : P (zr_v e p q j)) : wpX_localFrom P (sz, mk, ht, sd, a1, a2, a3, a4, a5, a6, a7, a8, a9, a10, a11, a12, a13, a14, a15, a16, a17, a18, a19, a20) (nI j) (nI (e + 2) - 1) := by
  have h' := h
  obtain ⟨he, _, _, _, _, _, h1, h2, h3, h4, h5, hm⟩ := h'
  obtain ⟨pp, qq, rr, hpq, hqr, hpr, _⟩ := hP
  have m1 : nI (e + 2) - 1 = nI (e + 1) := nI_pred (e + 1)
  rw [m1]
  unfold zr_v at hp
  by_cases hjr : j = p ∨ j = q
  · rw [if_pos hjr] at hp
    refine zr_lf_hit (fun P hp => zr_walk_l h hp) (by omega) h1 ?_ hp
    rcases hjr with z | z
    · rw [z]; exact Or.inl h2
    · rw [z]; exact Or.inr h3
  · rw [if_neg hjr] at hp
    have jr : j = r := by omega
    subst jr
    have n2 : ¬ a2 e = nI j := by rw [h2]; exact zr_ne (by omega) (by omega) (by omega)
    have n3 : ¬ a3 e = nI j := by rw [h3]; exact zr_ne (by omega) (by omega) (by omega)
    rcases he with z | z
    · rw [if_pos z] at hp
      refine zr_lf_round (fun P hp => zr_walk_l h hp) (by omega) h1 n2 n3 (fun P hp => ?_) hp
      rw [h5, show e - 1 = 0 by omega]
      exact zr_walk_0 h hp
    · rw [if_neg (by omega)] at hp
      obtain ⟨g1, g2, g3, g4, g5⟩ := hm z
      refine zr_lf_hop (d := 1) (fun P hp => zr_walk_l h hp) (by omega) h1 n2 n3 (fun P hp => ?_) (by omega) g1 (Or.inr g3) hp
      rw [h5, show e - 1 = 1 by omega]
      exact zr_walk_at (by omega) g1 hp
theorem zr_protocol {post : Int32 → St2 → Prop} {sz mk ht sd : Int32} {a1 a2 a3 a4 a5 a6 a7 a8 a9 a10 a11 a12 a13 a14 a15 a16 a17 a18 a19 a20 : Nat → Int32} {e p q r l m t : Nat} (h : zr_M e p q r l m t a1 a2 a3 a4 a5) (hP : zr_P p q r l m) (hmk : mk = nI (e + 2)) (hht : ht = nI 1)
    (hp : ∀ b1 b2 b3 b4 b5 b6 b7 b9 b10 b11 b12 b14 b15 b16 b17 : Nat → Int32, zr_T e p q r l m (nI (e + 2)) b1 b2 b3 b4 b5 b7 → (∀ j, j < 3 → b11 j = (zr_v e p q j).toInt8.toInt32) → (∀ j, j < 3 → b12 j = 0) → (∀ j, j < 3 → b14 j = 0) → (∀ j, j < 3 → b15 j = 0) → (∀ j, j < 9 → b16 j = 0) → (∀ j, j < 9 → b17 j = 0) →
      post (nI (e + 2)) (nI (e + 2), 0, 0, 0, b1, b2, b3, b4, b5, b6, b7, a8, b9, b10, b11, b12, a13, b14, b15, b16, b17, a18, a19, a20)) :
    wpX_protocol post (sz, mk, ht, sd, a1, a2, a3, a4, a5, a6, a7, a8, a9, a10, a11, a12, a13, a14, a15, a16, a17, a18, a19, a20) := by
  have he := h.1
  have ht2 := h.2.1
  have hA : ∀ i, 0 < i → i < e + 2 → ¬ a1 (20 + i) = 4 := by
    intro i h0 hi
    obtain ⟨_, _, _, _, k1, _, _, m1, _, _, _, _, hm⟩ := h
    have c : i = e + 1 ∨ i = e ∨ (e = 2 ∧ i = 1) := by omega
    rcases c with z | z | ⟨z, z'⟩
    · rw [z, k1]; decide
    · rw [z, m1]; decide
    · subst z'
      rw [show 20 + 1 = 21 from rfl, (hm z).1]; decide
  refine br_t (by rw [hht]; rfl) (zr_badLoops h hmk (fun b9 b10 h9 => br_t rfl ?_))
  have v9 : vp_nar .byte (b9 t) = nI (e + 1) := by rw [h9, zr_nar (by omega)]
  exact zr_p25 (by omega) ht2 hmk h.2.2.2.1 h.2.2.1 hA (by omega) (zr_v e p q)
    (fun b1 b2 b3 b4 b5 b6 b7 hY h7 j P a11 a12 a14 a15 hj hP' => zr_start (zr_MT h hP hY (h7.trans v9)) hP hj hP')
    (fun b1 b2 b3 b4 b5 b6 b7 b11 b12 b14 b15 b16 b17 hY h7 g1 g2 g3 g4 g5 g6 => hp _ _ _ _ _ _ _ _ _ _ _ _ _ _ _ (zr_MT h hP hY (h7.trans v9)) g1 g2 g3 g4 g5 g6)
end
section
/-! the law -/
theorem zr_139 {post : Int32 → St0 → Prop} {mc ms kc ks : Nat} {e p q r l m : Nat} {x2 x3 V x5 z0 z1 : Int32} {sz mk ht sd : Int32} {a1 a2 a3 a4 a5 a6 a7 a8 a9 a10 a11 a12 a13 a14 a15 a16 a17 a18 a19 a20 : Nat → Int32} (hpost : post 1 ()) (hz : z1 = z0) (hI : zr_I e p q r l m V 0 0 0 0 0 e sz sd a1 a2 a3 a4 a5 a7 a11 a12 a14 a15 a16 a17 a18 a19) :
    wL_lawOf_139 post mc ms x2 x3 V x5 (nI p) (nI q) (nI r) (nI l) (nI m) (nI (e - 1)) z0 z1 kc ks sz mk ht sd a1 a2 a3 a4 a5 a6 a7 a8 a9 a10 a11 a12 a13 a14 a15 a16 a17 a18 a19 a20 := by
  have hI' := hI
  obtain ⟨hT, _, _, _, ⟨_, _, _, _, b5, b6, _⟩, _⟩ := hI'
  exact br_t hz (zr_finish (k := e + 2) (by have := hT.1; omega) hT.2.1 (zr_TN hT) b6 (b5 0 (by omega)) (zr_I_11 hI) (fun a20' => br_t rfl ⟨41, zr_167 hpost 40 0 0 0 0 0 e _ _ _ _ _ _ _ _ rfl hI⟩))
theorem zr_I_0 {e p q r l m : Nat} {V : Int32} {a1 a2 a3 a4 a5 a7 a11 a12 a14 a15 a16 a17 a18 a19 : Nat → Int32} (hT : zr_T e p q r l m (nI (e + 2)) a1 a2 a3 a4 a5 a7) (hP : zr_P p q r l m)
    (g1 : ∀ j, j < 3 → a11 j = (zr_v e p q j).toInt8.toInt32) (g2 : ∀ j, j < 3 → a12 j = 0) (g3 : ∀ j, j < 3 → a14 j = 0) (g4 : ∀ j, j < 3 → a15 j = 0) (g5 : ∀ j, j < 9 → a16 j = 0) (g6 : ∀ j, j < 9 → a17 j = 0) :
    zr_I e p q r l m V 0 0 0 0 0 e (nI (e + 2)) 0 a1 a2 a3 a4 a5 a7 a11 a12 a14 a15 a16 a17 a18 a19 := by
  have hP' := hP
  obtain ⟨hp, hq, hr, hpq, hqr, hpr, _⟩ := hP'
  have he := hT.1
  have n2 : ((-2 : Int32)).toInt8.toInt32 = -2 := by decide
  refine ⟨hT, hP, ⟨by omega, fun _ => ⟨rfl, rfl⟩, Or.inl ⟨rfl, Or.inr rfl⟩⟩, rfl, ⟨?_, ?_, fun z => ?_, fun z => ?_, g2, g3, g4 p hp, g6 _ (by omega)⟩, ⟨by omega, by omega, g5 _ (by omega), g6 _ (by omega), fun i _ hi => absurd hi (by omega)⟩, ⟨by omega, by omega, g5 _ (by omega), g6 _ (by omega), fun i _ hi => absurd hi (by omega)⟩⟩
  · rw [g1 p hp, zr_v, if_pos (Or.inl rfl), zr_b _ (by omega)]
  · rw [g1 q hq, zr_v, if_pos (Or.inr rfl), zr_b _ (by omega)]
  · rw [g1 r hr, zr_v, if_neg (by omega), if_pos z, n2]
  · rw [g1 r hr, zr_v, if_neg (by omega), if_neg (by omega), zr_b _ (by omega)]
theorem zr_101 {post : Int32 → St0 → Prop} {mc ms kc ks : Nat} {e p q r l m t : Nat} {x2 x3 V x5 : Int32} {sz mk ht sd : Int32} {a1 a2 a3 a4 a5 a6 a7 a8 a9 a10 a11 a12 a13 a14 a15 a16 a17 a18 a19 a20 : Nat → Int32} (hpost : post 1 ()) (hP : zr_P p q r l m) (he : e = 1 ∨ e = 2) (ht2 : t < 2) (hmk : mk = nI e) (hht : ht = nI 1) (h8 : a8 0 = nI (e - 1))
    (h1 : a1 20 = 4) (h2 : a2 20 = nI t) (hm : e = 2 → a1 21 = 1 ∧ a2 21 = nI q ∧ a3 21 = nI r ∧ a4 21 = nI m ∧ a5 21 = nI 0) :
    wL_lawOf_101 post mc ms x2 x3 V x5 (nI p) (nI q) (nI r) (nI l) (nI t) (nI m) (nI (e - 1)) kc ks sz mk ht sd a1 a2 a3 a4 a5 a6 a7 a8 a9 a10 a11 a12 a13 a14 a15 a16 a17 a18 a19 a20 := by
  have hP' := hP
  obtain ⟨hp, hq, hr, hpq, hqr, hpr, hl, hm4⟩ := hP'
  unfold wL_lawOf_101
  refine zr_message hmk hht (by omega) hp hq hpq hl (by omega) h8 ?_
  refine zr_loop (k := e + 1) (D := e) rfl rfl (by omega) ht2 (by omega) pk_us (br_t rfl ?_)
  refine zr_protocol (e := e) (r := r) (m := m) (t := t) ⟨he, ht2, ?_, ?_, pk_us, pk_us, pk_us, ?_, ?_, ?_, ?_, ?_, fun z => ?_⟩ hP rfl rfl (fun b1 b2 b3 b4 b5 b6 b7 b9 b10 b11 b12 b14 b15 b16 b17 hT g1 g2 g3 g4 g5 g6 => ?_)
  · rw [pk_un (by omega), pk_un (by omega)]; exact h1
  · rw [pk_un (by omega), pk_un (by omega)]; exact h2
  · rw [pk_un (by omega), pk_us]; rfl
  · rw [pk_un (by omega), pk_us]
  · rw [pk_un (by omega), pk_us]
  · rw [pk_un (by omega), pk_us]
  · rw [pk_un (by omega), pk_us]
  · rw [pk_un (by omega), pk_un (by omega), pk_un (by omega), pk_un (by omega), pk_un (by omega), pk_un (by omega), pk_un (by omega), pk_un (by omega), pk_un (by omega), pk_un (by omega)]
    exact hm z
  · rcases he with z | z
    · exact br_t (by rw [z]; rfl) (zr_139 hpost (by rw [z]; rfl) (zr_I_0 hT hP g1 g2 g3 g4 g5 g6))
    · exact br_f (by rw [z]; decide) (zr_139 hpost (by rw [z]; rfl) (zr_I_0 hT hP g1 g2 g3 g4 g5 g6))
theorem zr_74a {post : Int32 → St0 → Prop} {mc ms kc ks : Nat} {p q r l m t : Nat} {x2 x3 V x5 : Int32} {sz mk ht sd : Int32} {a1 a2 a3 a4 a5 a6 a7 a8 a9 a10 a11 a12 a13 a14 a15 a16 a17 a18 a19 a20 : Nat → Int32} (hpost : post 1 ()) (hP : zr_P p q r l m) (ht2 : t < 2) :
    wL_lawOf_74 post mc ms x2 x3 V x5 (nI p) (nI q) (nI r) (nI l) (nI t) (nI m) 0 kc ks sz 0 0 sd a1 a2 a3 a4 a5 a6 a7 a8 a9 a10 a11 a12 a13 a14 a15 a16 a17 a18 a19 a20 := by
  unfold wL_lawOf_74
  refine zr_again (k := 0) rfl rfl (by omega) ht2 (br_t rfl ?_)
  exact zr_101 (e := 1) hpost hP (Or.inl rfl) ht2 rfl rfl pk_us pk_us pk_us (fun z => absurd z (by omega))
theorem zr_74b {post : Int32 → St0 → Prop} {mc ms kc ks : Nat} {p q r l m t : Nat} {x2 x3 V x5 : Int32} {sz mk ht sd : Int32} {a1 a2 a3 a4 a5 a6 a7 a8 a9 a10 a11 a12 a13 a14 a15 a16 a17 a18 a19 a20 : Nat → Int32} (hpost : post 1 ()) (hP : zr_P p q r l m) (ht2 : t < 2) :
    wL_lawOf_74 post mc ms x2 x3 V x5 (nI p) (nI q) (nI r) (nI l) (nI t) (nI m) 1 kc ks sz 0 0 sd a1 a2 a3 a4 a5 a6 a7 a8 a9 a10 a11 a12 a13 a14 a15 a16 a17 a18 a19 a20 := by
  have hP' := hP
  obtain ⟨hp, hq, hr, hpq, hqr, hpr, hl, hm4⟩ := hP'
  unfold wL_lawOf_74
  refine zr_again (k := 0) rfl rfl (by omega) ht2 (br_f (by decide) ?_)
  refine zr_message (k := 1) (D := 0) rfl rfl (by omega) hq hr hqr hm4 (by omega) pk_us ?_
  refine zr_101 (e := 2) hpost hP (Or.inr rfl) ht2 rfl rfl pk_us ?_ ?_ (fun _ => ⟨pk_us, pk_us, pk_us, pk_us, pk_us⟩)
  · rw [pk_un (by omega)]; exact pk_us
  · rw [pk_un (by omega)]; exact pk_us
theorem zr_lawOf {post : Int32 → St0 → Prop} {p0 p1 p2 p3 p4 p5 : Int32} (hpost : post 1 ()) : wpL_lawOf post 138 2192 () p0 p1 p2 p3 p4 p5 := by
  obtain ⟨j, hj, ej⟩ := pk_andE p0 (m := 127) 7 (by decide)
  obtain ⟨b, hb, eb⟩ := pk_andE (p0 >>> ((7 : Int32) &&& 31)) (m := 1) 1 (by decide)
  obtain ⟨l, hl, el⟩ := pk_andE p1 (m := 3) 2 (by decide)
  obtain ⟨t, ht, et⟩ := pk_andE (p1 >>> ((2 : Int32) &&& 31)) (m := 1) 1 (by decide)
  obtain ⟨m, hm, em⟩ := pk_andE (p1 >>> ((3 : Int32) &&& 31)) (m := 3) 2 (by decide)
  have hP : zr_P (j % 3) ((j % 3 + 1 + b) % 3) (3 - j % 3 - (j % 3 + 1 + b) % 3) l m := ⟨by omega, by omega, by omega, by omega, by omega, by omega, by omega, by omega⟩
  have e7 : (p0 &&& 127) - (p0 &&& 127) / 3 * 3 = nI (j % 3) := by rw [ej]; exact pk_rem (d := 3) (by omega) (by omega) (by omega)
  have e8 : ((nI (j % 3) + 1) + ((p0 >>> ((7 : Int32) &&& 31)) &&& 1)) - ((nI (j % 3) + 1) + ((p0 >>> ((7 : Int32) &&& 31)) &&& 1)) / 3 * 3 = nI ((j % 3 + 1 + b) % 3) := by
    rw [eb, nI_1, nI_add]; exact pk_rem (d := 3) (by omega) (by omega) (by omega)
  have e9 : (3 - nI (j % 3)) - nI ((j % 3 + 1 + b) % 3) = nI (3 - j % 3 - (j % 3 + 1 + b) % 3) := by
    rw [show (3 : Int32) = nI 3 from rfl, pk_sub (by omega), pk_sub (by omega)]
  refine ⟨by omega, by omega, 137, 2168, by omega, by omega, zr_init (by omega) (by omega) (fun a11 a12 a14 a15 a16 a17 => ?_)⟩
  exact ⟨by decide, nm_r e7 ⟨by decide, nm_r e8 (nm_r e9 (nm_r el (nm_r et (nm_r em (br_c (fun _ => zr_74b (mk := 0) (ht := 0) hpost hP ht) (fun _ => zr_74a (mk := 0) (ht := 0) hpost hP ht))))))⟩⟩
theorem zr_cell {post : Int32 → Prop} {L k : Nat} {xs : Nat → Int32} (hL : L ≤ 6) (hk : k < 6) (h : ∀ v, post v) : wpL_cellAt post L xs () (nI k) :=
  pk_le L k (fun _ => h 0) (fun z => ⟨pk_in k L z, h _⟩)
theorem i_vc (xs : Nat → Int32) (L : Nat) (hL : L ≤ 6) : wpL_law (fun r => r = 1) L xs := by
  unfold wpL_law
  refine zr_cell (k := 0) hL (by omega) (fun r1 => zr_cell (k := 1) hL (by omega) (fun r2 => zr_cell (k := 2) hL (by omega) (fun r3 => zr_cell (k := 3) hL (by omega) (fun r4 => zr_cell (k := 4) hL (by omega) (fun r5 => zr_cell (k := 5) hL (by omega) (fun r6 => ?_))))))
  exact ⟨138, 2192, by omega, by omega, zr_lawOf rfl⟩
end
