section
/-! base: small ints, literals, the fill loop -/
def fs_m : Int32 := -1
theorem fs_m1 : (-1 : Int32) = fs_m := rfl
theorem fs_l0 : (0 : Int32) = nI 0 := rfl
theorem fs_l1 : (1 : Int32) = nI 1 := rfl
theorem fs_l2 : (2 : Int32) = nI 2 := rfl
theorem fs_l3 : (3 : Int32) = nI 3 := rfl
theorem fs_l4 : (4 : Int32) = nI 4 := rfl
theorem fs_l5 : (5 : Int32) = nI 5 := rfl
theorem fs_l6 : (6 : Int32) = nI 6 := rfl
theorem fs_l7 : (7 : Int32) = nI 7 := rfl
theorem fs_l8 : (8 : Int32) = nI 8 := rfl
theorem fs_l16 : (16 : Int32) = nI 16 := rfl
theorem fs_l17 : (17 : Int32) = nI 17 := rfl
theorem fs_l20 : (20 : Int32) = nI 20 := rfl
theorem fs_l32 : (32 : Int32) = nI 32 := rfl
theorem fs_l63 : (63 : Int32) = nI 63 := rfl
theorem fs_l64 : (64 : Int32) = nI 64 := rfl
theorem fs_l99 : (99 : Int32) = nI 99 := rfl
theorem fs_lF : (1048576 : Int32) = nI 1048576 := rfl
theorem fs_lR : (100000 : Int32) = nI 100000 := rfl
theorem fs_mT : fs_m.toInt = -1 := by decide
theorem fs_mlt {k : Nat} (h : k < 2 ^ 31) : (fs_m < nI k) ↔ True := by
  rw [Int32.lt_iff_toInt_lt, fs_mT, nI_toInt h]; simp only [iff_true]; omega
theorem fs_ltm {k : Nat} (h : k < 2 ^ 31) : (nI k < fs_m) ↔ False := by
  rw [Int32.lt_iff_toInt_lt, fs_mT, nI_toInt h]; simp only [iff_false]; omega
theorem fs_mle {k : Nat} (h : k < 2 ^ 31) : (fs_m ≤ nI k) ↔ True := by
  rw [Int32.le_iff_toInt_le, fs_mT, nI_toInt h]; simp only [iff_true]; omega
theorem fs_lem {k : Nat} (h : k < 2 ^ 31) : (nI k ≤ fs_m) ↔ False := by
  rw [Int32.le_iff_toInt_le, fs_mT, nI_toInt h]; simp only [iff_false]; omega
theorem fs_eqm {k : Nat} (h : k < 2 ^ 31) : (nI k = fs_m) ↔ False := by
  simp only [iff_false]
  intro e
  have := congrArg Int32.toInt e
  rw [fs_mT, nI_toInt h] at this
  omega
theorem fs_meq {k : Nat} (h : k < 2 ^ 31) : (fs_m = nI k) ↔ False := by
  rw [eq_comm]; exact fs_eqm h
theorem fs_m1a : fs_m + nI 1 = nI 0 := by decide
theorem fs_in {k N : Nat} (h : k < N) (hN : N < 2 ^ 31) : vp_in (nI k) N ↔ True := by
  simp only [iff_true]; exact vp_in_nI h hN
theorem fs_b {k : Nat} (h : k < 128) : (nI k).toInt8.toInt32 = nI k := by
  have g : ∀ k, k < 128 → (nI k).toInt8.toInt32 = nI k := by decide +kernel
  exact g k h
theorem fs_nb {k : Nat} (h : k < 128) : vp_nar .byte (nI k) = nI k := by rw [vp_nar_byte, fs_b h]
theorem fs_nbm : vp_nar .byte fs_m = fs_m := by rw [vp_nar_byte]; decide
theorem fs_a63 {k : Nat} (h : k < 64) : nI k &&& nI 63 = nI k := by
  have g : ∀ k, k < 64 → nI k &&& nI 63 = nI k := by decide +kernel
  exact g k h
theorem fs_x0 : nI 0 ^^^ nI 1 = nI 1 := by decide
theorem fs_x1 : nI 1 ^^^ nI 1 = nI 0 := by decide
theorem fs_xe : ∀ e, e < 56 → nI e ^^^ 1 = nI (e ^^^ 1) ∧ e ^^^ 1 < 56 := by decide +kernel
theorem fs_eta {f s : Nat → Int32} {i : Nat} {x : Int32} (h : ∀ j, j < i → s j = f j) (hx : x = f i) : ∀ j, j < i + 1 → upd s i x j = f j := by
  intro j hj
  by_cases e : j = i
  · rw [e, pk_us, hx]
  · rw [pk_un e]
    exact h j (by omega)
/-- a loop that fills an array -/
theorem fs_fill (W : Nat → Int32 → (Nat → Int32) → Prop) (N : Nat) (g : Nat → Int32) (a : Nat → Int32)
    (hs : ∀ n i s, i < N → W n (nI (i + 1)) (upd s i (g i)) → W (n + 1) (nI i) s)
    (hx : ∀ n s, (∀ j, j < N → s j = g j) → W (n + 1) (nI N) s) : ∃ n, W n 0 a :=
  pk_loop (fun n i s => W n (nI i) s) (fun i s => ∀ j, j < i → s j = g j) N 0 a (by omega) (fun j hj => absurd hj (by omega)) hx
    (fun n i s hi h hw => hs n i s hi (hw _ (fs_eta h rfl)))
end
section
/-! points, arcs, networks -/
def fs_pair (p q : Int32) : Prop := ∃ s t : Nat, s < 8 ∧ t < 8 ∧ s ≠ t ∧ p = nI s ∧ q = nI t
theorem fs_pt {p : Int32} (h0 : ¬ p < 0) (h1 : ¬ 8 ≤ p) : ∃ s : Nat, s < 8 ∧ p = nI s := by
  rcases pk_ix p (n := 8) (by omega) with h | h | h
  · exact absurd h h0
  · exact absurd h h1
  · exact h
theorem fs_ptn {s : Nat} (h : s < 8) : ¬ nI s < 0 ∧ ¬ 8 ≤ nI s := ⟨nI_pos (by omega), nI_ge (b := 8) h (by omega)⟩
theorem fs_isPoint {post : Int32 → Prop} {u : St0} {p : Int32} (h0 : (p < 0 ∨ 8 ≤ p) → post 0) (h1 : ¬ p < 0 → ¬ 8 ≤ p → post 1) : wpX_isPoint post u p := by
  unfold wpX_isPoint
  exact br_c (fun z => h0 (Or.inl z)) (fun z => br_c (fun y => h0 (Or.inr y)) (fun y => h1 z y))
theorem fs_isPair {post : Int32 → Prop} {u : St0} {p q : Int32} (h0 : ¬ fs_pair p q → post 0) (h1 : ∀ s t : Nat, s < 8 → t < 8 → s ≠ t → p = nI s → q = nI t → post 1) : wpX_isPair post u p q := by
  unfold wpX_isPair
  refine fs_isPoint (fun z => br_t rfl (h0 ?_)) (fun z1 z2 => br_f (by decide) (fs_isPoint (fun z => br_t rfl (h0 ?_)) (fun y1 y2 => br_f (by decide) (br_c (fun e => h0 ?_) (fun e => ?_)))))
  · rintro ⟨s, t, hs, ht, hn, rfl, rfl⟩
    rcases z with z | z
    · exact (fs_ptn hs).1 z
    · exact (fs_ptn hs).2 z
  · rintro ⟨s, t, hs, ht, hn, rfl, rfl⟩
    rcases z with z | z
    · exact (fs_ptn ht).1 z
    · exact (fs_ptn ht).2 z
  · rintro ⟨s, t, hs, ht, hn, rfl, rfl⟩
    exact hn ((nI_eq (by omega) (by omega)).mp e)
  · obtain ⟨s, hs, rfl⟩ := fs_pt z1 z2
    obtain ⟨t, ht, rfl⟩ := fs_pt y1 y2
    exact h1 s t hs ht (fun z => e (by rw [z])) rfl rfl
theorem fs_isEngine {post : Int32 → Prop} {u : St0} {p : Int32} (h0 : (p < 0 ∨ 7 ≤ p) → post 0) (h1 : ∀ g : Nat, g < 7 → p = nI g → post 1) : wpX_isEngine post u p := by
  unfold wpX_isEngine
  refine br_c (fun z => h0 (Or.inl z)) (fun z => br_c (fun y => h0 (Or.inr y)) (fun y => ?_))
  rcases pk_ix p (n := 7) (by omega) with h | h | ⟨g, hg, h⟩
  · exact absurd h z
  · exact absurd h y
  · exact h1 g hg h
theorem fs_hk : ∀ k, k < 20 → (((0 : Int32) >>> (nI k &&& 31)) &&& 1) = 0 ∧ (0 < k → (((1 : Int32) >>> (nI k &&& 31)) &&& 1) = 0) := by decide +kernel
theorem fs_has0 {post : Int32 → Prop} {pr so si ed fl qf qs oc : Int32} {fr tp ro et lf fe ne lv cu cb ex hg qu qd pa gn nd tr og : Nat → Int32} {k : Nat} (hk : k < 20) (hp : pr = 0 ∨ (pr = 1 ∧ 0 < k)) (h : post 0) : wpX_has post (pr, so, si, ed, fl, qf, qs, oc, fr, tp, ro, et, lf, fe, ne, lv, cu, cb, ex, hg, qu, qd, pa, gn, nd, tr, og) (nI k) := by
  unfold wpX_has
  refine br_f (nI_pos (by omega)) (br_f (nI_ge (b := 20) hk (by omega)) (br_t ?_ h))
  rcases hp with rfl | ⟨rfl, h0⟩
  · exact (fs_hk k hk).1
  · exact (fs_hk k hk).2 h0
theorem fs_has1 {post : Int32 → Prop} {pr so si ed fl qf qs oc : Int32} {fr tp ro et lf fe ne lv cu cb ex hg qu qd pa gn nd tr og : Nat → Int32} (hp : pr = 1) (h : post 1) : wpX_has post (pr, so, si, ed, fl, qf, qs, oc, fr, tp, ro, et, lf, fe, ne, lv, cu, cb, ex, hg, qu, qd, pa, gn, nd, tr, og) 0 := by
  subst hp
  unfold wpX_has
  exact br_f (by decide) (br_f (by decide) (br_f (by decide) h))
theorem fs_add {post : Int32 → St2 → Prop} {pr so si ed fl qf qs oc : Int32} {fr tp ro et lf fe ne lv cu cb ex hg qu qd pa gn nd tr og : Nat → Int32} (hp : pr = 0) {p q r : Int32}
    (h0 : ¬ (fs_pair p q ∧ ¬ r < 0 ∧ r ≤ 99) → post (-1) (pr, so, si, ed, fl, qf, qs, oc, fr, tp, ro, et, lf, fe, ne, lv, cu, cb, ex, hg, qu, qd, pa, gn, nd, tr, og))
    (h1 : ∀ a b w : Nat, a < 8 → b < 8 → a ≠ b → w ≤ 99 → p = nI a → q = nI b → r = nI w → ∀ (fr' tp' ro' : Nat → Int32), fr' 0 = nI a → tp' 0 = nI b → ro' 0 = nI w → post 0 (1, so, si, ed, fl, qf, qs, oc, fr', tp', ro', et, lf, fe, ne, lv, cu, cb, ex, hg, qu, qd, pa, gn, nd, tr, og)) :
    wpX_add post (pr, so, si, ed, fl, qf, qs, oc, fr, tp, ro, et, lf, fe, ne, lv, cu, cb, ex, hg, qu, qd, pa, gn, nd, tr, og) p q r := by
  subst hp
  unfold wpX_add
  refine fs_isPair (fun z => br_t rfl (h0 (fun y => z y.1))) (fun a b ha hb hn ea eb => br_f (by decide) (br_c (fun z => h0 (fun y => y.2.1 z)) (fun z => br_c (fun y => ?_) (fun y => h0 (fun x => y x.2.2)))))
  obtain ⟨w, hw, rfl⟩ := nI_of2 (M := 99) (n := 99) (by decide) z y
  subst ea eb
  refine ⟨1, br_f (by decide) (fs_has0 (k := 0) (by omega) (Or.inl rfl) (br_t rfl (nm_r (show (0 : Int32) ||| ((1 : Int32) <<< ((0 : Int32) &&& 31)) = 1 by decide) ⟨pk_in 0 20 (by omega), nm_e ⟨pk_in 0 20 (by omega), nm_e ⟨pk_in 0 20 (by omega), nm_e ?_⟩⟩⟩)))⟩
  exact h1 a b w ha hb hn hw rfl rfl rfl _ _ _ (fs_b (by omega)) (fs_b (by omega)) (fs_b (by omega))
theorem fs_addEdge {post : St2 → Prop} {pr so si ed fl qf qs oc : Int32} {fr tp ro et lf fe ne lv cu cb ex hg qu qd pa gn nd tr og : Nat → Int32} {m p q : Nat} {x y r : Int32} (hm : ed = nI m) (hm2 : m + 1 < 56) (hp : p < 16) (hq : q < 16) (hpq : p ≠ q) (hx : x = nI p) (hy : y = nI q)
    (n1 : vp_nar .byte (fe p) = fe p) (n2 : vp_nar .byte (fe q) = fe q)
    (H : post (pr, so, si, nI (m + 2), fl, qf, qs, oc, fr, tp, ro, upd (upd et m (nI q)) (m + 1) (nI p), upd (upd lf m r) (m + 1) 0, upd (upd fe p (nI m)) q (nI (m + 1)), upd (upd ne m (fe p)) (m + 1) (fe q), lv, cu, cb, ex, hg, qu, qd, pa, gn, nd, tr, og)) :
    wpX_addEdge post (pr, so, si, ed, fl, qf, qs, oc, fr, tp, ro, et, lf, fe, ne, lv, cu, cb, ex, hg, qu, qd, pa, gn, nd, tr, og) x y r := by
  subst hm hx hy
  unfold wpX_addEdge
  have e1 : nI m + 1 = nI (m + 1) := nI_1 m
  have c0 : (nI m).toNatClampNeg = m := nI_clamp (by omega)
  have c1 : (nI (m + 1)).toNatClampNeg = m + 1 := nI_clamp (by omega)
  have c2 : (nI p).toNatClampNeg = p := nI_clamp (by omega)
  have c3 : (nI q).toNatClampNeg = q := nI_clamp (by omega)
  have i0 : vp_in (nI m) 56 := pk_in m 56 (by omega)
  have i1 : vp_in (nI m + 1) 56 := by rw [e1]; exact pk_in (m + 1) 56 (by omega)
  have i2 : vp_in (nI p) 16 := pk_in p 16 (by omega)
  have i3 : vp_in (nI q) 16 := pk_in q 16 (by omega)
  have b0 : (nI m).toInt8.toInt32 = nI m := fs_b (by omega)
  have b1 : (nI (m + 1)).toInt8.toInt32 = nI (m + 1) := fs_b (by omega)
  have b2 : (nI p).toInt8.toInt32 = nI p := fs_b (by omega)
  have b3 : (nI q).toInt8.toInt32 = nI q := fs_b (by omega)
  refine ⟨i0, nm_r (by rw [c0, b3]) ⟨i0, nm_r (by rw [c0]) ⟨i2, i0, nm_r (by rw [c0, c2, n1]) ⟨i2, nm_r (by rw [c2, b0]) ⟨i1, nm_r (by rw [e1, c1, b2]) ⟨i1, nm_r (by rw [e1, c1]) ⟨i3, i1, nm_r (by rw [e1, c1, c3, pk_un (Ne.symm hpq), n2]) ⟨i3, nm_r (by rw [c3, e1, b1]) (nm_r (show nI m + 2 = nI (m + 2) from nI_add m 2) H)⟩⟩⟩⟩⟩⟩⟩⟩
theorem fs_outOf0 {post : Int32 → Prop} {pr so si ed fl qf qs oc : Int32} {fr tp ro et lf fe ne lv cu cb ex hg qu qd pa gn nd tr og : Nat → Int32} {x k : Int32} (hk : k < 2) (H : post x) : wpX_outOf post (pr, so, si, ed, fl, qf, qs, oc, fr, tp, ro, et, lf, fe, ne, lv, cu, cb, ex, hg, qu, qd, pa, gn, nd, tr, og) x k := by
  unfold wpX_outOf
  exact br_t hk (br_t rfl H)
theorem fs_outOf3 {post : Int32 → Prop} {pr so si ed fl qf qs oc : Int32} {fr tp ro et lf fe ne lv cu cb ex hg qu qd pa gn nd tr og : Nat → Int32} {p s t : Nat} {x : Int32} (hx : x = nI p) (hs : so = nI s) (ht : si = nI t) (hp : p < 8) (hs8 : s < 8) (ht8 : t < 8)
    (H0 : (p = s ∨ p = t) → post (nI p)) (H1 : p ≠ s → p ≠ t → post (nI (p + 8))) : wpX_outOf post (pr, so, si, ed, fl, qf, qs, oc, fr, tp, ro, et, lf, fe, ne, lv, cu, cb, ex, hg, qu, qd, pa, gn, nd, tr, og) x 3 := by
  subst hx hs ht
  unfold wpX_outOf
  refine br_f (by decide) (pk_eq p s (fun z => br_t rfl (H0 (Or.inl z))) (fun z => pk_eq p t (fun y => br_t rfl (H0 (Or.inr y))) (fun y => br_f (by decide) ?_)))
  have e : nI p + 8 = nI (p + 8) := nI_add p 8
  rw [e]
  exact H1 z y
theorem fs_lay23 {post : St2 → Prop} {x1 x2 x3 x4 : Int32} {pr so si ed fl qf qs oc : Int32} {fr tp ro et lf fe ne lv cu cb ex hg qu qd pa gn nd tr og : Nat → Int32} (H : ∀ (fe' : Nat → Int32), (∀ j, j < 16 → fe' j = -1) → ∃ n, wX_lay_47 post x1 x2 x3 x4 n 0 pr so si ed fl qf qs oc fr tp ro et lf fe' ne lv cu cb ex hg qu qd pa gn nd tr og) :
    ∃ n, wX_lay_23 post x1 x2 x3 x4 pr so si ed fl qf qs oc n 0 fr tp ro et lf fe ne lv cu cb ex hg qu qd pa gn nd tr og :=
  fs_fill (fun n i s => wX_lay_23 post x1 x2 x3 x4 pr so si ed fl qf qs oc n i fr tp ro et lf s ne lv cu cb ex hg qu qd pa gn nd tr og) 16 (fun _ => -1) fe
    (fun n i s hi hw => pk_le 16 i (fun z => absurd z (by omega)) (fun _ => ⟨pk_in i 16 hi, nm_r (by rw [nI_clamp (by omega)]) (nm_r (nI_1 i) hw)⟩))
    (fun n s h => pk_le 16 16 (fun _ => H s h) (fun z => absurd z (by omega)))
theorem fs_lay47t {post : St2 → Prop} {x1 x2 x3 x4 : Int32} {pr so si ed fl qf qs oc : Int32} {fr tp ro et lf fe ne lv cu cb ex hg qu qd pa gn nd tr og : Nat → Int32} {i0 : Nat} (hi : i0 ≤ 20) (hp : pr = 0 ∨ (pr = 1 ∧ 0 < i0)) (H : ∃ n, wX_lay_137 post x1 x2 x3 x4 n 0 pr so si ed fl qf qs oc fr tp ro et lf fe ne lv cu cb ex hg qu qd pa gn nd tr og) :
    ∃ n, wX_lay_47 post x1 x2 x3 x4 n (nI i0) pr so si ed fl qf qs oc fr tp ro et lf fe ne lv cu cb ex hg qu qd pa gn nd tr og :=
  pk_loop (σ := Unit) (fun n i _ => wX_lay_47 post x1 x2 x3 x4 n (nI i) pr so si ed fl qf qs oc fr tp ro et lf fe ne lv cu cb ex hg qu qd pa gn nd tr og) (fun i _ => i0 ≤ i) 20 i0 () hi (Nat.le_refl _)
    (fun n _ _ => pk_le 20 20 (fun _ => H) (fun z => absurd z (by omega)))
    (fun n i _ hi h hw => pk_le 20 i (fun z => absurd z (by omega)) (fun _ => fs_has0 hi (hp.imp id (fun z => ⟨z.1, by omega⟩)) (br_t rfl (nm_r (nI_1 i) (hw () (by omega))))))
theorem fs_lay137 {post : St2 → Prop} {x1 x2 x3 x4 : Int32} {pr so si ed fl qf qs oc : Int32} {fr tp ro et lf fe ne lv cu cb ex hg qu qd pa gn nd tr og : Nat → Int32} (hk : x1 < 2) (H : post (pr, so, si, ed, fl, qf, qs, oc, fr, tp, ro, et, lf, fe, ne, lv, cu, cb, ex, hg, qu, qd, pa, gn, nd, tr, og)) : ∃ n, wX_lay_137 post x1 x2 x3 x4 n 0 pr so si ed fl qf qs oc fr tp ro et lf fe ne lv cu cb ex hg qu qd pa gn nd tr og :=
  ⟨1, br_f (by decide) (br_t hk H)⟩
theorem fs_lay82 {post : St2 → Prop} {J : Int32 → Int32 → Int32 → Int32 → Int32 → Int32 → Int32 → Int32 → Int32 → (Nat → Int32) → (Nat → Int32) → (Nat → Int32) → (Nat → Int32) → (Nat → Int32) → (Nat → Int32) → (Nat → Int32) → (Nat → Int32) → (Nat → Int32) → (Nat → Int32) → (Nat → Int32) → (Nat → Int32) → (Nat → Int32) → (Nat → Int32) → (Nat → Int32) → (Nat → Int32) → (Nat → Int32) → (Nat → Int32) → (Nat → Int32) → Prop}
    {x1 x2 x3 x4 x6 z0 r : Int32} {pr so si ed fl qf qs oc : Int32} {fr tp ro et lf fe ne lv cu cb ex hg qu qd pa gn nd tr og : Nat → Int32} {a b f : Nat} (ha : fr 0 = nI a) (hb : tp 0 = nI b) (hed : ed = 0) (hf : f < 16) (hb8 : b < 16) (hfb : f ≠ b)
    (n1 : vp_nar .byte (fe f) = fe f) (n2 : vp_nar .byte (fe b) = fe b)
    (hout : ∀ Q : Int32 → Prop, Q (nI f) → wpX_outOf Q (pr, so, si, ed, fl, qf, qs, oc, fr, tp, ro, et, lf, fe, ne, lv, cu, cb, ex, hg, qu, qd, pa, gn, nd, tr, og) (nI a) x1)
    (hr : (x1 = 1 ∧ r = z0) ∨ (¬ x1 = 1 ∧ ¬ x1 = 2 ∧ r = x6))
    (H : J (nI 1) pr so si (nI 2) fl qf qs oc fr tp ro (upd (upd et 0 (nI b)) 1 (nI f)) (upd (upd lf 0 r) 1 0) (upd (upd fe f (nI 0)) b (nI 1)) (upd (upd ne 0 (fe f)) 1 (fe b)) lv cu cb ex hg qu qd pa gn nd tr og) :
    wX_lay_82 post J x1 x2 x3 x4 0 x6 z0 pr so si ed fl qf qs oc fr tp ro et lf fe ne lv cu cb ex hg qu qd pa gn nd tr og := by
  unfold wX_lay_82
  rw [sb_cl0, ha, hb]
  refine ⟨pk_in 0 20 (by omega), hout _ ⟨pk_in 0 20 (by omega), ?_⟩⟩
  rcases hr with ⟨h1, h2⟩ | ⟨h1, h2, h3⟩
  · subst h2
    refine br_t h1 ?_
    unfold wX_lay_118
    exact fs_addEdge (m := 0) hed (by omega) hf hb8 hfb rfl rfl n1 n2 (nm_r (nI_1 0) H)
  · subst h3
    exact br_f h1 (br_f h2 (fs_addEdge (m := 0) hed (by omega) hf hb8 hfb rfl rfl n1 n2 (nm_r (nI_1 0) H)))
theorem fs_lay47a {post : St2 → Prop} {x1 x2 x3 x4 r : Int32} {pr so si ed fl qf qs oc : Int32} {fr tp ro et lf fe ne lv cu cb ex hg qu qd pa gn nd tr og : Nat → Int32} {a b f w : Nat} (hp : pr = 1) (ha : fr 0 = nI a) (hb : tp 0 = nI b) (hw : ro 0 = nI w) (hw9 : w ≤ 99) (hed : ed = 0) (hf : f < 16) (hb8 : b < 16) (hfb : f ≠ b)
    (hfe : ∀ j, j < 16 → fe j = -1)
    (hout : ∀ Q : Int32 → Prop, Q (nI f) → wpX_outOf Q (pr, so, si, ed, fl, qf, qs, oc, fr, tp, ro, et, lf, fe, ne, lv, cu, cb, ex, hg, qu, qd, pa, gn, nd, tr, og) (nI a) x1)
    (hr : (x1 = 1 ∧ r = nI (if 0 < w then 1 else 0)) ∨ (¬ x1 = 1 ∧ ¬ x1 = 2 ∧ r = nI w))
    (H : ∀ (et' lf' fe' ne' : Nat → Int32), et' 0 = nI b → et' 1 = nI f → lf' 0 = r → lf' 1 = 0 → ne' 0 = -1 → ne' 1 = -1 → fe' f = nI 0 → fe' b = nI 1 → (∀ j, j < 16 → j ≠ f → j ≠ b → fe' j = -1) → ∃ n, wX_lay_47 post x1 x2 x3 x4 n (nI 1) pr so si (nI 2) fl qf qs oc fr tp ro et' lf' fe' ne' lv cu cb ex hg qu qd pa gn nd tr og) :
    ∃ n, wX_lay_47 post x1 x2 x3 x4 n 0 pr so si ed fl qf qs oc fr tp ro et lf fe ne lv cu cb ex hg qu qd pa gn nd tr og := by
  have e1 : vp_nar .byte (fe f) = fe f := by rw [hfe f hf]; exact fs_nbm
  have e2 : vp_nar .byte (fe b) = fe b := by rw [hfe b hb8]; exact fs_nbm
  obtain ⟨N, hN⟩ := H (upd (upd et 0 (nI b)) 1 (nI f)) (upd (upd lf 0 r) 1 0) (upd (upd fe f (nI 0)) b (nI 1)) (upd (upd ne 0 (fe f)) 1 (fe b)) rfl rfl rfl rfl (hfe f hf) (hfe b hb8)
    (by rw [pk_un hfb, pk_us]) pk_us (fun j hj h1 h2 => by rw [pk_un h2, pk_un h1]; exact hfe j hj)
  refine ⟨N + 1, br_f (by decide) (fs_has1 hp (br_f (by decide) ⟨pk_in 0 20 (by omega), nm_r (show ro (0 : Int32).toNatClampNeg = nI w by rw [sb_cl0]; exact hw) ?_⟩))⟩
  refine pk_le w 0 (fun z => ?_) (fun z => ?_)
  · exact fs_lay82 ha hb hed hf hb8 hfb e1 e2 hout (hr.imp (fun h => ⟨h.1, by rw [h.2, if_neg (by omega)]; rfl⟩) id) hN
  · exact fs_lay82 ha hb hed hf hb8 hfb e1 e2 hout (hr.imp (fun h => ⟨h.1, by rw [h.2, if_pos z]; rfl⟩) id) hN
/-- the picture of the arcs that are there: none, or one -/
def fs_none (pr : Int32) : Prop := pr = 0
def fs_one (a b w : Nat) (pr : Int32) (fr tp ro : Nat → Int32) : Prop := pr = 1 ∧ fr 0 = nI a ∧ tp 0 = nI b ∧ ro 0 = nI w ∧ a < 8 ∧ b < 8 ∧ a ≠ b ∧ w ≤ 99
/-- kinds 0 and 1: no arc -/
theorem fs_lay_n {post : St2 → Prop} {pr so si ed fl qf qs oc : Int32} {fr tp ro et lf fe ne lv cu cb ex hg qu qd pa gn nd tr og : Nat → Int32} {k much : Int32} {s t : Nat} (hp : pr = 0) (hk : k < 2)
    (H : ∀ (fe' : Nat → Int32), (∀ j, j < 16 → fe' j = -1) → post (pr, nI s, nI t, 0, 0, qf, qs, oc, fr, tp, ro, et, lf, fe', ne, lv, cu, cb, ex, hg, qu, qd, pa, gn, nd, tr, og)) : wpX_lay post (pr, so, si, ed, fl, qf, qs, oc, fr, tp, ro, et, lf, fe, ne, lv, cu, cb, ex, hg, qu, qd, pa, gn, nd, tr, og) k (nI s) (nI t) much := by
  unfold wpX_lay
  exact fs_lay23 (fun fe' h => fs_lay47t (i0 := 0) (by omega) (Or.inl hp) (fs_lay137 hk (H fe' h)))
/-- kinds 0 and 1: one arc -/
theorem fs_lay_a {post : St2 → Prop} {pr so si ed fl qf qs oc : Int32} {fr tp ro et lf fe ne lv cu cb ex hg qu qd pa gn nd tr og : Nat → Int32} {k much r : Int32} {s t a b w : Nat} (ho : fs_one a b w pr fr tp ro) (hk : k < 2)
    (hr : (k = 1 ∧ r = nI (if 0 < w then 1 else 0)) ∨ (¬ k = 1 ∧ ¬ k = 2 ∧ r = nI w))
    (H : ∀ (et' lf' fe' ne' : Nat → Int32), et' 0 = nI b → et' 1 = nI a → lf' 0 = r → lf' 1 = 0 → ne' 0 = -1 → ne' 1 = -1 → fe' a = nI 0 → fe' b = nI 1 → (∀ j, j < 16 → j ≠ a → j ≠ b → fe' j = -1) →
      post (pr, nI s, nI t, nI 2, 0, qf, qs, oc, fr, tp, ro, et', lf', fe', ne', lv, cu, cb, ex, hg, qu, qd, pa, gn, nd, tr, og)) : wpX_lay post (pr, so, si, ed, fl, qf, qs, oc, fr, tp, ro, et, lf, fe, ne, lv, cu, cb, ex, hg, qu, qd, pa, gn, nd, tr, og) k (nI s) (nI t) much := by
  obtain ⟨hp, ha, hb, hw, ha8, hb8, hab, hw9⟩ := ho
  unfold wpX_lay
  refine fs_lay23 (fun fe' h => fs_lay47a (r := r) hp ha hb hw hw9 rfl (by omega) (by omega) hab h (fun Q hQ => fs_outOf0 hk hQ) hr ?_)
  intro et' lf' fe'' ne' h1 h2 h3 h4 h5 h6 h7 h8 h9
  exact fs_lay47t (i0 := 1) (by omega) (Or.inr ⟨hp, by omega⟩) (fs_lay137 hk (H et' lf' fe'' ne' h1 h2 h3 h4 h5 h6 h7 h8 h9))
/-! kind 3: the points are made two -/
def fs_WF (m : Nat) (et fe ne : Nat → Int32) : Prop := m ≤ 56 ∧ (∀ e, e < m → ∃ v, v < 16 ∧ et e = nI v) ∧ (∀ e, e < m → ne e = -1 ∨ ∃ e', e' < e ∧ ne e = nI e') ∧ (∀ n, n < 16 → fe n = -1 ∨ ∃ e, e < m ∧ fe n = nI e)
theorem fs_WF0 {et fe ne : Nat → Int32} (h : ∀ j, j < 16 → fe j = -1) : fs_WF 0 et fe ne :=
  ⟨by omega, fun e h => absurd h (by omega), fun e h => absurd h (by omega), fun n hn => Or.inl (h n hn)⟩
theorem fs_WFn {m : Nat} {et fe ne : Nat → Int32} (h : fs_WF m et fe ne) {p : Nat} (hp : p < 16) : vp_nar .byte (fe p) = fe p := by
  obtain ⟨h0, _, _, h3⟩ := h
  rcases h3 p hp with e | ⟨k, hk, e⟩
  · rw [e]; exact fs_nbm
  · rw [e]; exact fs_nb (by omega)
theorem fs_WFadd {m : Nat} {et fe ne : Nat → Int32} (h : fs_WF m et fe ne) (hm : m + 2 ≤ 56) {p q : Nat} (hp : p < 16) (hq : q < 16) :
    fs_WF (m + 2) (upd (upd et m (nI q)) (m + 1) (nI p)) (upd (upd fe p (nI m)) q (nI (m + 1))) (upd (upd ne m (fe p)) (m + 1) (fe q)) := by
  obtain ⟨h0, h1, h2, h3⟩ := h
  refine ⟨hm, fun e he => ?_, fun e he => ?_, fun n hn => ?_⟩
  · by_cases e1 : e = m + 1
    · exact ⟨p, hp, by rw [e1, pk_us]⟩
    · rw [pk_un e1]
      by_cases e2 : e = m
      · exact ⟨q, hq, by rw [e2, pk_us]⟩
      · rw [pk_un e2]
        exact h1 e (by omega)
  · by_cases e1 : e = m + 1
    · rw [e1, pk_us]
      rcases h3 q hq with z | ⟨k, hk, z⟩
      · exact Or.inl z
      · exact Or.inr ⟨k, by omega, z⟩
    · rw [pk_un e1]
      by_cases e2 : e = m
      · rw [e2, pk_us]
        rcases h3 p hp with z | ⟨k, hk, z⟩
        · exact Or.inl z
        · exact Or.inr ⟨k, by omega, z⟩
      · rw [pk_un e2]
        exact h2 e (by omega)
  · by_cases e1 : n = q
    · exact Or.inr ⟨m + 1, by omega, by rw [e1, pk_us]⟩
    · rw [pk_un e1]
      by_cases e2 : n = p
      · exact Or.inr ⟨m, by omega, by rw [e2, pk_us]⟩
      · rw [pk_un e2]
        rcases h3 n hn with z | ⟨k, hk, z⟩
        · exact Or.inl z
        · exact Or.inr ⟨k, by omega, z⟩
/-- what the split edges leave as it was -/
def fs_Sp (s t m0 : Nat) (et0 lf0 fe0 ne0 : Nat → Int32) (i : Nat) (ed : Int32) (et lf fe ne : Nat → Int32) : Prop :=
  ∃ m, ed = nI m ∧ m0 ≤ m ∧ m ≤ m0 + 2 * i ∧ fs_WF m et fe ne ∧ fe s = fe0 s ∧ (∀ e, e < m0 → et e = et0 e ∧ ne e = ne0 e ∧ lf e = lf0 e) ∧ (∀ e, m0 ≤ e → e < m → ¬ et e = nI t)
theorem fs_SpAdd {s t m0 i p m : Nat} {et0 lf0 fe0 ne0 et lf fe ne : Nat → Int32} {r : Int32} (ht : t < 8) (hp : p < 8) (hps : p ≠ s) (hpt : p ≠ t) (hs : s < 8) (hm : m + 2 ≤ 56)
    (h0 : m0 ≤ m) (h1 : m ≤ m0 + 2 * i) (h2 : fs_WF m et fe ne) (h3 : fe s = fe0 s) (h4 : ∀ e, e < m0 → et e = et0 e ∧ ne e = ne0 e ∧ lf e = lf0 e) (h5 : ∀ e, m0 ≤ e → e < m → ¬ et e = nI t) :
    fs_Sp s t m0 et0 lf0 fe0 ne0 (i + 1) (nI (m + 2)) (upd (upd et m (nI (p + 8))) (m + 1) (nI p)) (upd (upd lf m r) (m + 1) 0) (upd (upd fe p (nI m)) (p + 8) (nI (m + 1))) (upd (upd ne m (fe p)) (m + 1) (fe (p + 8))) := by
  refine ⟨m + 2, rfl, by omega, by omega, fs_WFadd h2 hm (by omega) (by omega), ?_, fun e he => ?_, fun e he he2 => ?_⟩
  · rw [pk_un (by omega), pk_un (by omega)]
    exact h3
  · rw [pk_un (by omega), pk_un (by omega), pk_un (by omega), pk_un (by omega), pk_un (by omega), pk_un (by omega)]
    exact h4 e he
  · by_cases e1 : e = m + 1
    · rw [e1, pk_us, nI_eq (by omega) (by omega)]
      exact hpt
    · rw [pk_un e1]
      by_cases e2 : e = m
      · rw [e2, pk_us, nI_eq (by omega) (by omega)]
        omega
      · rw [pk_un e2]
        exact h5 e he (by omega)
theorem fs_lay137s {post : St2 → Prop} {much : Int32} {pr so si ed fl qf qs oc : Int32} {fr tp ro et lf fe ne lv cu cb ex hg qu qd pa gn nd tr og : Nat → Int32} {s t m0 : Nat} (hs : s < 8) (ht : t < 8) (hed : ed = nI m0) (hm : m0 ≤ 2) (hW : fs_WF m0 et fe ne)
    (H : ∀ (ed' : Int32) (et' lf' fe' ne' : Nat → Int32), fs_Sp s t m0 et lf fe ne 8 ed' et' lf' fe' ne' → post (pr, so, si, ed', fl, qf, qs, oc, fr, tp, ro, et', lf', fe', ne', lv, cu, cb, ex, hg, qu, qd, pa, gn, nd, tr, og)) :
    ∃ n, wX_lay_137 post 3 (nI s) (nI t) much n 0 pr so si ed fl qf qs oc fr tp ro et lf fe ne lv cu cb ex hg qu qd pa gn nd tr og := by
  refine pk_loop (fun n i (z : Int32 × (Nat → Int32) × (Nat → Int32) × (Nat → Int32) × (Nat → Int32)) => wX_lay_137 post 3 (nI s) (nI t) much n (nI i) pr so si z.1 fl qf qs oc fr tp ro z.2.1 z.2.2.1 z.2.2.2.1 z.2.2.2.2 lv cu cb ex hg qu qd pa gn nd tr og)
    (fun i z => fs_Sp s t m0 et lf fe ne i z.1 z.2.1 z.2.2.1 z.2.2.2.1 z.2.2.2.2) 8 0 (ed, et, lf, fe, ne) (by omega) ?_ ?_ ?_
  · exact ⟨m0, hed, by omega, by omega, hW, rfl, fun e _ => ⟨rfl, rfl, rfl⟩, fun e h1 h2 => absurd h2 (by omega)⟩
  · rintro n ⟨ed', et', lf', fe', ne'⟩ h
    exact pk_le 8 8 (fun _ => H ed' et' lf' fe' ne' h) (fun z => absurd z (by omega))
  · rintro n i ⟨ed', et', lf', fe', ne'⟩ hi h hw
    have hs1 : fs_Sp s t m0 et lf fe ne (i + 1) ed' et' lf' fe' ne' := by
      obtain ⟨m, g0, g1, g2, g3⟩ := h
      exact ⟨m, g0, g1, by omega, g3⟩
    refine pk_le 8 i (fun z => absurd z (by omega)) (fun _ => br_f (by decide) (pk_eq i s (fun z => nm_r (nI_1 i) (hw (ed', et', lf', fe', ne') hs1)) (fun z1 => pk_eq i t (fun z => nm_r (nI_1 i) (hw (ed', et', lf', fe', ne') hs1)) (fun z2 => ?_))))
    obtain ⟨m, g0, g1, g2, g3, g4, g5, g6⟩ := h
    exact fs_addEdge (m := m) g0 (by omega) (p := i) (q := i + 8) (by omega) (by omega) (by omega) rfl (nI_add i 8) (fs_WFn g3 (by omega)) (fs_WFn g3 (by omega))
      (nm_r (nI_1 i) (hw (_, _, _, _, _) (fs_SpAdd ht (by omega) z1 z2 hs (by omega) g1 g2 g3 g4 g5 g6)))
theorem fs_lay3_n {post : St2 → Prop} {pr so si ed fl qf qs oc : Int32} {fr tp ro et lf fe ne lv cu cb ex hg qu qd pa gn nd tr og : Nat → Int32} {much : Int32} {s t : Nat} (hs : s < 8) (ht : t < 8) (hp : pr = 0)
    (H : ∀ (m : Nat) (ed' : Int32) (et' lf' fe' ne' : Nat → Int32), fs_WF m et' fe' ne' → fe' s = -1 → post (pr, nI s, nI t, ed', 0, qf, qs, oc, fr, tp, ro, et', lf', fe', ne', lv, cu, cb, ex, hg, qu, qd, pa, gn, nd, tr, og)) : wpX_lay post (pr, so, si, ed, fl, qf, qs, oc, fr, tp, ro, et, lf, fe, ne, lv, cu, cb, ex, hg, qu, qd, pa, gn, nd, tr, og) 3 (nI s) (nI t) much := by
  unfold wpX_lay
  refine fs_lay23 (fun fe' h => fs_lay47t (i0 := 0) (by omega) (Or.inl hp) (fs_lay137s (m0 := 0) hs ht rfl (by omega) (fs_WF0 h) ?_))
  rintro ed' et' lf' fe'' ne' ⟨m, g0, g1, g2, g3, g4, g5, g6⟩
  exact H m ed' et' lf' fe'' ne' g3 (by rw [g4]; exact h s (by omega))
theorem fs_WF2 {et fe ne : Nat → Int32} {f b : Nat} (hf : f < 16) (hb : b < 16) (h1 : et 0 = nI b) (h2 : et 1 = nI f) (h3 : ne 0 = -1) (h4 : ne 1 = -1) (h5 : fe f = nI 0) (h6 : fe b = nI 1) (h7 : ∀ j, j < 16 → j ≠ f → j ≠ b → fe j = -1) : fs_WF 2 et fe ne := by
  refine ⟨by omega, fun e he => ?_, fun e he => ?_, fun n hn => ?_⟩
  · rcases (show e = 0 ∨ e = 1 by omega) with rfl | rfl
    · exact ⟨b, hb, h1⟩
    · exact ⟨f, hf, h2⟩
  · rcases (show e = 0 ∨ e = 1 by omega) with rfl | rfl
    · exact Or.inl h3
    · exact Or.inl h4
  · by_cases e1 : n = f
    · rw [e1]; exact Or.inr ⟨0, by omega, h5⟩
    · by_cases e2 : n = b
      · rw [e2]; exact Or.inr ⟨1, by omega, h6⟩
      · exact Or.inl (h7 n hn e1 e2)
/-- kind 3, one arc: f is where the arc goes out -/
theorem fs_lay3_a {post : St2 → Prop} {pr so si ed fl qf qs oc : Int32} {fr tp ro et lf fe ne lv cu cb ex hg qu qd pa gn nd tr og : Nat → Int32} {much : Int32} {s t a b w : Nat} (hs : s < 8) (ht : t < 8) (ho : fs_one a b w pr fr tp ro)
    (H : ∀ (m f : Nat) (ed' : Int32) (et' lf' fe' ne' : Nat → Int32), 2 ≤ m → fs_WF m et' fe' ne' → f < 16 → (((a = s ∨ a = t) ∧ f = a) ∨ (a ≠ s ∧ a ≠ t ∧ f = a + 8)) →
      et' 0 = nI b → et' 1 = nI f → lf' 0 = nI w → lf' 1 = 0 → ne' 0 = -1 → ne' 1 = -1 → (s = a → fe' s = nI 0) → (s = b → fe' s = nI 1) → (s ≠ a → s ≠ b → fe' s = -1) → (∀ e, 2 ≤ e → e < m → ¬ et' e = nI t) →
      post (pr, nI s, nI t, ed', 0, qf, qs, oc, fr, tp, ro, et', lf', fe', ne', lv, cu, cb, ex, hg, qu, qd, pa, gn, nd, tr, og)) : wpX_lay post (pr, so, si, ed, fl, qf, qs, oc, fr, tp, ro, et, lf, fe, ne, lv, cu, cb, ex, hg, qu, qd, pa, gn, nd, tr, og) 3 (nI s) (nI t) much := by
  obtain ⟨hp, ha, hb, hw, ha8, hb8, hab, hw9⟩ := ho
  unfold wpX_lay
  refine fs_lay23 (fun fe' h => ?_)
  have main : ∀ f : Nat, f < 16 → f ≠ b → (((a = s ∨ a = t) ∧ f = a) ∨ (a ≠ s ∧ a ≠ t ∧ f = a + 8)) → (∀ Q : Int32 → Prop, Q (nI f) → wpX_outOf Q (pr, nI s, nI t, 0, 0, qf, qs, oc, fr, tp, ro, et, lf, fe', ne, lv, cu, cb, ex, hg, qu, qd, pa, gn, nd, tr, og) (nI a) 3) →
      ∃ n, wX_lay_47 post 3 (nI s) (nI t) much n 0 pr (nI s) (nI t) 0 0 qf qs oc fr tp ro et lf fe' ne lv cu cb ex hg qu qd pa gn nd tr og := by
    intro f hf hfb hc hout
    refine fs_lay47a (r := nI w) hp ha hb hw hw9 rfl hf (by omega) hfb h hout (Or.inr ⟨by decide, by decide, rfl⟩) ?_
    intro et' lf' fe'' ne' h1 h2 h3 h4 h5 h6 h7 h8 h9
    refine fs_lay47t (i0 := 1) (by omega) (Or.inr ⟨hp, by omega⟩) (fs_lay137s (m0 := 2) hs ht rfl (by omega) (fs_WF2 hf (by omega) h1 h2 h5 h6 h7 h8 h9) ?_)
    rintro ed2 et2 lf2 fe2 ne2 ⟨m, g0, g1, g2, g3, g4, g5, g6⟩
    refine H m f ed2 et2 lf2 fe2 ne2 g1 g3 hf hc ?_ ?_ ?_ ?_ ?_ ?_ ?_ ?_ ?_ g6
    · rw [(g5 0 (by omega)).1]; exact h1
    · rw [(g5 1 (by omega)).1]; exact h2
    · rw [(g5 0 (by omega)).2.2]; exact h3
    · rw [(g5 1 (by omega)).2.2]; exact h4
    · rw [(g5 0 (by omega)).2.1]; exact h5
    · rw [(g5 1 (by omega)).2.1]; exact h6
    · intro z
      rw [g4]
      rcases hc with ⟨_, z2⟩ | ⟨z2, _, _⟩
      · rw [z, ← z2]; exact h7
      · exact absurd z.symm z2
    · intro z
      rw [g4, z]; exact h8
    · intro z1 z2
      rw [g4]
      exact h9 s (by omega) (by omega) z2
  by_cases hc : a = s ∨ a = t
  · exact main a (by omega) hab (Or.inl ⟨hc, rfl⟩) (fun Q hQ => fs_outOf3 rfl rfl rfl ha8 hs ht (fun _ => hQ) (fun z1 z2 => absurd hc (by omega)))
  · exact main (a + 8) (by omega) (by omega) (Or.inr ⟨by omega, by omega, rfl⟩) (fun Q hQ => fs_outOf3 rfl rfl rfl ha8 hs ht (fun z => absurd z hc) (fun _ _ => hQ))
end
section
/-! queues, move, levels -/
theorem fs_clearQueue {post : St2 → Prop} {pr so si ed fl qf qs oc : Int32} {fr tp ro et lf fe ne lv cu cb ex hg qu qd pa gn nd tr og : Nat → Int32} (H : ∀ (qd' : Nat → Int32), (∀ j, j < 16 → qd' j = 0) → post (pr, so, si, ed, fl, 0, 0, oc, fr, tp, ro, et, lf, fe, ne, lv, cu, cb, ex, hg, qu, qd', pa, gn, nd, tr, og)) : wpX_clearQueue post (pr, so, si, ed, fl, qf, qs, oc, fr, tp, ro, et, lf, fe, ne, lv, cu, cb, ex, hg, qu, qd, pa, gn, nd, tr, og) := by
  unfold wpX_clearQueue
  exact fs_fill (fun n i s => wX_clearQueue_12 post pr so si ed fl 0 0 oc n i fr tp ro et lf fe ne lv cu cb ex hg qu s pa gn nd tr og) 16 (fun _ => 0) qd
    (fun n i s hi hw => pk_le 16 i (fun z => absurd z (by omega)) (fun _ => ⟨pk_in i 16 hi, nm_r (by rw [nI_clamp (by omega)]) (nm_r (nI_1 i) hw)⟩))
    (fun n s h => pk_le 16 16 (fun _ => H s h) (fun z => absurd z (by omega)))
theorem fs_enq {post : St2 → Prop} {pr so si ed fl qf qs oc : Int32} {fr tp ro et lf fe ne lv cu cb ex hg qu qd pa gn nd tr og : Nat → Int32} {v i k : Nat} {x : Int32} (hv : v < 16) (hx : x = nI v) (hf : qf = nI i) (hk : qs = nI k) (hi : i + k < 64) (hq : qd v = 0)
    (H : post (pr, so, si, ed, fl, qf, nI (k + 1), oc, fr, tp, ro, et, lf, fe, ne, lv, cu, cb, ex, hg, upd qu (i + k) (nI v), upd qd v 1, pa, gn, nd, tr, og)) : wpX_enqueue post (pr, so, si, ed, fl, qf, qs, oc, fr, tp, ro, et, lf, fe, ne, lv, cu, cb, ex, hg, qu, qd, pa, gn, nd, tr, og) x := by
  subst hx hf hk
  unfold wpX_enqueue
  dsimp only
  have e : (nI i + nI k) &&& 63 = nI (i + k) := by rw [nI_add]; exact fs_a63 hi
  rw [nI_clamp (show v < 2 ^ 31 by omega), e, nI_clamp (show i + k < 2 ^ 31 by omega), fs_b (show v < 128 by omega), nI_1]
  exact ⟨pk_in v 16 hv, br_t hq ⟨pk_in (i + k) 64 hi, nm_e (nm_e ⟨pk_in v 16 hv, nm_e H⟩)⟩⟩
theorem fs_enq_any {post : St2 → Prop} {pr so si ed fl qf qs oc : Int32} {fr tp ro et lf fe ne lv cu cb ex hg qu qd pa gn nd tr og : Nat → Int32} {v : Nat} {x : Int32} (hv : v < 16) (hx : x = nI v) (H : ∀ (qs' : Int32) (qu' qd' : Nat → Int32), post (pr, so, si, ed, fl, qf, qs', oc, fr, tp, ro, et, lf, fe, ne, lv, cu, cb, ex, hg, qu', qd', pa, gn, nd, tr, og)) : wpX_enqueue post (pr, so, si, ed, fl, qf, qs, oc, fr, tp, ro, et, lf, fe, ne, lv, cu, cb, ex, hg, qu, qd, pa, gn, nd, tr, og) x := by
  subst hx
  unfold wpX_enqueue
  exact ⟨pk_in v 16 hv, br_c (fun _ => ⟨pk_andIn (qf + qs) 6 (by decide) (by omega), nm_e (nm_e ⟨pk_in v 16 hv, nm_e (H _ _ _)⟩)⟩) (fun _ => H qs qu qd)⟩
theorem fs_deq {post : Int32 → St2 → Prop} {pr so si ed fl qf qs oc : Int32} {fr tp ro et lf fe ne lv cu cb ex hg qu qd pa gn nd tr og : Nat → Int32} {v i k : Nat} (hv : v < 16) (hf : qf = nI i) (hk : qs = nI (k + 1)) (hi : i < 63) (hq : qu i = nI v)
    (H : post (nI v) (pr, so, si, ed, fl, nI (i + 1), nI k, oc, fr, tp, ro, et, lf, fe, ne, lv, cu, cb, ex, hg, qu, upd qd v 0, pa, gn, nd, tr, og)) : wpX_dequeue post (pr, so, si, ed, fl, qf, qs, oc, fr, tp, ro, et, lf, fe, ne, lv, cu, cb, ex, hg, qu, qd, pa, gn, nd, tr, og) := by
  subst hf hk
  unfold wpX_dequeue
  have e : (nI i + 1) &&& 63 = nI (i + 1) := by rw [nI_1]; exact fs_a63 (by omega)
  refine ⟨pk_in i 64 (by omega), nm_r (show qu (nI i).toNatClampNeg = nI v by rw [nI_clamp (by omega)]; exact hq) (nm_r e (nm_r (nI_pred k) ⟨pk_in v 16 hv, nm_r (by rw [nI_clamp (by omega)]) H⟩))⟩
theorem fs_move {post : St2 → Prop} {pr so si ed fl qf qs oc : Int32} {fr tp ro et lf fe ne lv cu cb ex hg qu qd pa gn nd tr og : Nat → Int32} {e : Nat} {x y : Int32} (he : e < 56) (hx : x = nI e)
    (H : post (pr, so, si, ed, fl, qf, qs, oc, fr, tp, ro, et, upd (upd lf e (lf e - y)) (e ^^^ 1) ((upd lf e (lf e - y)) (e ^^^ 1) + y), fe, ne, lv, cu, cb, ex, hg, qu, qd, pa, gn, nd, tr, og)) : wpX_move post (pr, so, si, ed, fl, qf, qs, oc, fr, tp, ro, et, lf, fe, ne, lv, cu, cb, ex, hg, qu, qd, pa, gn, nd, tr, og) x y := by
  subst hx
  obtain ⟨h1, h2⟩ := fs_xe e he
  unfold wpX_move
  dsimp only
  rw [h1, nI_clamp (show e < 2 ^ 31 by omega), nI_clamp (show e ^^^ 1 < 2 ^ 31 by omega)]
  exact ⟨pk_in e 56 he, pk_in e 56 he, nm_e ⟨pk_in (e ^^^ 1) 56 h2, pk_in (e ^^^ 1) 56 h2, nm_e H⟩⟩
abbrev fs_J8 : Type := Int32 → Int32 → Int32 → Int32 → Int32 → Int32 → Int32 → Int32 → (Nat → Int32) → (Nat → Int32) → (Nat → Int32) → (Nat → Int32) → (Nat → Int32) → (Nat → Int32) → (Nat → Int32) → (Nat → Int32) → (Nat → Int32) → (Nat → Int32) → (Nat → Int32) → (Nat → Int32) → (Nat → Int32) → (Nat → Int32) → (Nat → Int32) → (Nat → Int32) → (Nat → Int32) → (Nat → Int32) → (Nat → Int32) → Prop
theorem fs_fl62_end {post : Int32 → St2 → Prop} {J : fs_J8} {x1 x2 x3 : Int32} {pr so si ed fl qf qs oc : Int32} {fr tp ro et lf fe ne lv cu cb ex hg qu qd pa gn nd tr og : Nat → Int32} (h3 : x3 = -1) (H : J pr so si ed fl qf qs oc fr tp ro et lf fe ne lv cu cb ex hg qu qd pa gn nd tr og) : ∃ n, wX_findLevels_62 post J x1 x2 n x3 pr so si ed fl qf qs oc fr tp ro et lf fe ne lv cu cb ex hg qu qd pa gn nd tr og := by
  subst h3
  exact ⟨1, br_t (by decide) H⟩
theorem fs_fl62_skip {post : Int32 → St2 → Prop} {J : fs_J8} {x1 x2 x3 : Int32} {pr so si ed fl qf qs oc : Int32} {fr tp ro et lf fe ne lv cu cb ex hg qu qd pa gn nd tr og : Nat → Int32} {e v : Nat} (h3 : x3 = nI e) (he : e < 56) (hv : v < 16) (hne : ne e = -1) (het : et e = nI v) (hc : lf e < x1 ∨ 0 ≤ lv v)
    (H : J pr so si ed fl qf qs oc fr tp ro et lf fe ne lv cu cb ex hg qu qd pa gn nd tr og) : ∃ n, wX_findLevels_62 post J x1 x2 n x3 pr so si ed fl qf qs oc fr tp ro et lf fe ne lv cu cb ex hg qu qd pa gn nd tr og := by
  subst h3
  have ce : (nI e).toNatClampNeg = e := nI_clamp (by omega)
  have cv : (nI v).toNatClampNeg = v := nI_clamp (by omega)
  have ie : vp_in (nI e) 56 := pk_in e 56 he
  have iv : vp_in (nI v) 16 := pk_in v 16 hv
  have n1 : ne (nI e).toNatClampNeg = -1 := by rw [ce]; exact hne
  have t1 : et (nI e).toNatClampNeg = nI v := by rw [ce]; exact het
  refine ⟨2, br_f (nI_pos (by omega)) ⟨ie, nm_r t1 ⟨ie, ?_⟩⟩⟩
  by_cases z : lf e < x1
  · exact br_t (by rw [ce]; exact z) ⟨ie, nm_r n1 (br_t (by decide) H)⟩
  · exact br_f (by rw [ce]; exact z) ⟨iv, br_t (by rw [cv]; exact hc.resolve_left z) ⟨ie, nm_r n1 (br_t (by decide) H)⟩⟩
theorem fs_fl62_take {post : Int32 → St2 → Prop} {J : fs_J8} {x1 x2 x3 : Int32} {pr so si ed fl qf qs oc : Int32} {fr tp ro et lf fe ne lv cu cb ex hg qu qd pa gn nd tr og : Nat → Int32} {e v u i k : Nat} (h3 : x3 = nI e) (he : e < 56) (hv : v < 16) (hu : u < 16) (h2 : x2 = nI u) (hne : ne e = -1) (het : et e = nI v) (h5 : ¬ lf e < x1) (hl : ¬ 0 ≤ lv v)
    (hf : qf = nI i) (hk : qs = nI k) (hi : i + k < 64) (hq : qd v = 0)
    (H : J pr so si ed fl qf (nI (k + 1)) oc fr tp ro et lf fe ne (upd lv v (lv u + 1)) cu (upd cb v (nI e)) ex hg (upd qu (i + k) (nI v)) (upd qd v 1) pa gn nd tr og) : ∃ n, wX_findLevels_62 post J x1 x2 n x3 pr so si ed fl qf qs oc fr tp ro et lf fe ne lv cu cb ex hg qu qd pa gn nd tr og := by
  subst h3 h2
  have ce : (nI e).toNatClampNeg = e := nI_clamp (by omega)
  have cv : (nI v).toNatClampNeg = v := nI_clamp (by omega)
  have cu : (nI u).toNatClampNeg = u := nI_clamp (by omega)
  have ie : vp_in (nI e) 56 := pk_in e 56 he
  have iv : vp_in (nI v) 16 := pk_in v 16 hv
  have iu : vp_in (nI u) 16 := pk_in u 16 hu
  have n1 : ne (nI e).toNatClampNeg = -1 := by rw [ce]; exact hne
  have t1 : et (nI e).toNatClampNeg = nI v := by rw [ce]; exact het
  refine ⟨2, br_f (nI_pos (by omega)) ⟨ie, nm_r t1 ⟨ie, br_f (by rw [ce]; exact h5) ⟨iv, br_f (by rw [cv]; exact hl) ⟨iu, iv, nm_r (by rw [cv, cu]) ⟨iv, nm_r (by rw [cv, fs_b (by omega)]) ?_⟩⟩⟩⟩⟩⟩
  exact fs_enq hv rfl hf hk hi hq ⟨ie, nm_r n1 (br_t (by decide) H)⟩
/-- the first loop and what stands behind it: the source alone is in the queue -/
theorem fs_fl_start {post : Int32 → St2 → Prop} {x1 : Int32} {pr so si ed fl qf qs oc : Int32} {fr tp ro et lf fe ne lv cu cb ex hg qu qd pa gn nd tr og : Nat → Int32} {s : Nat} (hs : s < 16) (hso : so = nI s)
    (H : ∀ (lv' qu' qd' : Nat → Int32), lv' s = 0 → (∀ j, j < 16 → j ≠ s → lv' j = -1) → qu' 0 = nI s → (∀ j, j < 16 → j ≠ s → qd' j = 0) → ∃ n, wX_findLevels_43 post x1 n pr so si ed fl (nI 0) (nI 1) oc fr tp ro et lf fe ne lv' cu cb ex hg qu' qd' pa gn nd tr og) :
    wpX_findLevels post (pr, so, si, ed, fl, qf, qs, oc, fr, tp, ro, et, lf, fe, ne, lv, cu, cb, ex, hg, qu, qd, pa, gn, nd, tr, og) x1 := by
  unfold wpX_findLevels
  refine fs_fill (fun n i s => wX_findLevels_2 post x1 pr so si ed fl qf qs oc n i fr tp ro et lf fe ne s cu cb ex hg qu qd pa gn nd tr og) 16 (fun _ => -1) lv
    (fun n i s hi hw => pk_le 16 i (fun z => absurd z (by omega)) (fun _ => ⟨pk_in i 16 hi, nm_r (by rw [nI_clamp (by omega)]) (nm_r (nI_1 i) hw)⟩))
    (fun n lv' h => pk_le 16 16 (fun _ => ?_) (fun z => absurd z (by omega)))
  refine fs_clearQueue (fun qd' hq => ?_)
  subst hso
  refine ⟨pk_in s 16 hs, nm_r (by rw [nI_clamp (by omega)]) (fs_enq (i := 0) (k := 0) hs rfl rfl rfl (by omega) (hq s hs) ?_)⟩
  exact H _ _ _ pk_us (fun j hj e => by rw [pk_un e]; exact h j hj) pk_us (fun j hj e => by rw [pk_un e]; exact hq j hj)
/-- the source's edge view for edges with at least so much room: nothing leads on, or it leads to b alone -/
def fs_no (s : Nat) (L : Int32) (et lf fe ne : Nat → Int32) : Prop := fe s = -1 ∨ ∃ e v : Nat, e < 56 ∧ v < 16 ∧ fe s = nI e ∧ ne e = -1 ∧ et e = nI v ∧ lf e < L
def fs_to (s b : Nat) (L : Int32) (et lf fe ne : Nat → Int32) : Prop := b < 16 ∧ b ≠ s ∧ fe s = nI 0 ∧ ne 0 = -1 ∧ et 0 = nI b ∧ ¬ lf 0 < L ∧ fe b = nI 1 ∧ ne 1 = -1 ∧ et 1 = nI s
def fs_dead (s t : Nat) (L : Int32) (et lf fe ne : Nat → Int32) : Prop := fs_no s L et lf fe ne ∨ ∃ b, b ≠ t ∧ fs_to s b L et lf fe ne
theorem fs_fl_no {post : Int32 → St2 → Prop} {L : Int32} {pr so si ed fl qf qs oc : Int32} {fr tp ro et lf fe ne lv cu cb ex hg qu qd pa gn nd tr og : Nat → Int32} {s t : Nat} (hs : s < 16) (ht : t < 16) (hst : s ≠ t) (hso : so = nI s) (hsi : si = nI t) (hn : fs_no s L et lf fe ne)
    (H : ∀ (qf' qs' : Int32) (lv' cb' qu' qd' : Nat → Int32), post 0 (pr, so, si, ed, fl, qf', qs', oc, fr, tp, ro, et, lf, fe, ne, lv', cu, cb', ex, hg, qu', qd', pa, gn, nd, tr, og)) : wpX_findLevels post (pr, so, si, ed, fl, qf, qs, oc, fr, tp, ro, et, lf, fe, ne, lv, cu, cb, ex, hg, qu, qd, pa, gn, nd, tr, og) L := by
  refine fs_fl_start hs hso (fun lv' qu' qd' l1 l2 q1 q2 => ⟨2, br_f (by decide) (fs_deq (i := 0) (k := 0) hs rfl rfl (by omega) q1 ?_)⟩)
  have fin : ∀ (qd' : Nat → Int32), wX_findLevels_43 post L 1 pr so si ed fl (nI 1) (nI 0) oc fr tp ro et lf fe ne lv' cu cb ex hg qu' qd' pa gn nd tr og := by
    intro qd'
    subst hsi
    exact br_t (by decide) ⟨pk_in t 16 ht, br_t (by rw [nI_clamp (by omega), l2 t ht (Ne.symm hst)]; decide) (H _ _ _ _ _ _)⟩
  refine ⟨pk_in s 16 hs, nm_r (by rw [nI_clamp (by omega)]) ?_⟩
  rcases hn with h | ⟨e, v, he, hv, h1, h2, h3, h4⟩
  · exact fs_fl62_end h (fin _)
  · exact fs_fl62_skip h1 he hv h2 h3 (Or.inl h4) (fin _)
theorem fs_fl_to {post : Int32 → St2 → Prop} {L : Int32} {pr so si ed fl qf qs oc : Int32} {fr tp ro et lf fe ne lv cu cb ex hg qu qd pa gn nd tr og : Nat → Int32} {s t b : Nat} (hs : s < 16) (ht : t < 16) (hst : s ≠ t) (hso : so = nI s) (hsi : si = nI t) (hn : fs_to s b L et lf fe ne)
    (H : ∀ (r : Int32) (qf' qs' : Int32) (lv' cb' qu' qd' : Nat → Int32), (t = b → r = 1) → (t ≠ b → r = 0) → lv' s = 0 → lv' b = 1 → (∀ j, j < 16 → j ≠ s → j ≠ b → lv' j = -1) → cb' b = nI 0 → post r (pr, so, si, ed, fl, qf', qs', oc, fr, tp, ro, et, lf, fe, ne, lv', cu, cb', ex, hg, qu', qd', pa, gn, nd, tr, og)) : wpX_findLevels post (pr, so, si, ed, fl, qf, qs, oc, fr, tp, ro, et, lf, fe, ne, lv, cu, cb, ex, hg, qu, qd, pa, gn, nd, tr, og) L := by
  obtain ⟨hb, hbs, h1, h2, h3, h4, h5, h6, h7⟩ := hn
  refine fs_fl_start hs hso (fun lv' qu' qd' l1 l2 q1 q2 => ⟨3, br_f (by decide) (fs_deq (i := 0) (k := 0) hs rfl rfl (by omega) q1 ?_)⟩)
  refine ⟨pk_in s 16 hs, nm_r (by rw [nI_clamp (by omega)]) ?_⟩
  refine fs_fl62_take (e := 0) (v := b) (u := s) (i := 1) (k := 0) h1 (by omega) hb hs rfl h2 h3 h4 (by rw [l2 b hb hbs]; decide) rfl rfl (by omega) (by rw [pk_un hbs]; exact q2 b hb hbs) ?_
  refine br_f (by decide) (fs_deq (i := 1) (k := 0) hb rfl rfl (by omega) pk_us ?_)
  refine ⟨pk_in b 16 hb, nm_r (by rw [nI_clamp (by omega)]) ?_⟩
  refine fs_fl62_skip h5 (by omega) hs h6 h7 (Or.inr (by rw [pk_un (Ne.symm hbs), l1]; decide)) ?_
  have e1 : upd lv' b (lv' s + 1) b = 1 := by rw [pk_us, l1]; decide
  have e0 : upd lv' b (lv' s + 1) s = 0 := by rw [pk_un (Ne.symm hbs)]; exact l1
  have e2 : ∀ j, j < 16 → j ≠ s → j ≠ b → upd lv' b (lv' s + 1) j = -1 := fun j hj a1 a2 => by rw [pk_un a2]; exact l2 j hj a1
  subst hsi
  refine br_t (by decide) ⟨pk_in t 16 ht, ?_⟩
  by_cases z : t = b
  · exact br_f (by rw [nI_clamp (by omega), z, e1]; decide) (H 1 _ _ _ _ _ _ (fun _ => rfl) (fun y => absurd z y) e0 e1 e2 pk_us)
  · exact br_t (by rw [nI_clamp (by omega), e2 t ht (Ne.symm hst) z]; decide) (H 0 _ _ _ _ _ _ (fun y => absurd y z) (fun _ => rfl) e0 e1 e2 pk_us)
theorem fs_fl_dead {post : Int32 → St2 → Prop} {L : Int32} {pr so si ed fl qf qs oc : Int32} {fr tp ro et lf fe ne lv cu cb ex hg qu qd pa gn nd tr og : Nat → Int32} {s t : Nat} (hs : s < 16) (ht : t < 16) (hst : s ≠ t) (hso : so = nI s) (hsi : si = nI t) (hn : fs_dead s t L et lf fe ne)
    (H : ∀ (qf' qs' : Int32) (lv' cb' qu' qd' : Nat → Int32), post 0 (pr, so, si, ed, fl, qf', qs', oc, fr, tp, ro, et, lf, fe, ne, lv', cu, cb', ex, hg, qu', qd', pa, gn, nd, tr, og)) : wpX_findLevels post (pr, so, si, ed, fl, qf, qs, oc, fr, tp, ro, et, lf, fe, ne, lv, cu, cb, ex, hg, qu, qd, pa, gn, nd, tr, og) L := by
  rcases hn with h | ⟨b, hb, h⟩
  · exact fs_fl_no hs ht hst hso hsi h H
  · refine fs_fl_to hs ht hst hso hsi h ?_
    intro r qf' qs' lv' cb' qu' qd' _ h2 _ _ _ _
    rw [h2 (Ne.symm hb)]
    exact H _ _ _ _ _ _
theorem fs_fl_live {post : Int32 → St2 → Prop} {L : Int32} {pr so si ed fl qf qs oc : Int32} {fr tp ro et lf fe ne lv cu cb ex hg qu qd pa gn nd tr og : Nat → Int32} {s t : Nat} (hs : s < 16) (ht : t < 16) (hst : s ≠ t) (hso : so = nI s) (hsi : si = nI t) (hn : fs_to s t L et lf fe ne)
    (H : ∀ (qf' qs' : Int32) (lv' cb' qu' qd' : Nat → Int32), lv' s = 0 → lv' t = 1 → (∀ j, j < 16 → j ≠ s → j ≠ t → lv' j = -1) → cb' t = nI 0 → post 1 (pr, so, si, ed, fl, qf', qs', oc, fr, tp, ro, et, lf, fe, ne, lv', cu, cb', ex, hg, qu', qd', pa, gn, nd, tr, og)) : wpX_findLevels post (pr, so, si, ed, fl, qf, qs, oc, fr, tp, ro, et, lf, fe, ne, lv, cu, cb, ex, hg, qu, qd, pa, gn, nd, tr, og) L := by
  refine fs_fl_to hs ht hst hso hsi hn ?_
  intro r qf' qs' lv' cb' qu' qd' h1 _ h3 h4 h5 h6
  rw [h1 rfl]
  exact H _ _ _ _ _ _ h3 h4 h5 h6
end
section
/-! engines 0, 4 and 1 -/
/-- a post that holds whatever the engines' own arrays hold, G: what it asks of flow and left -/
def fs_R (post : St2 → Prop) (pr so si ed : Int32) (fr tp ro et fe ne : Nat → Int32) (G : Int32 → (Nat → Int32) → Prop) : Prop :=
  ∀ (fl qf qs oc : Int32) (lf lv cu cb ex hg qu qd pa gn nd tr og : Nat → Int32), G fl lf → post (pr, so, si, ed, fl, qf, qs, oc, fr, tp, ro, et, lf, fe, ne, lv, cu, cb, ex, hg, qu, qd, pa, gn, nd, tr, og)
/-- the arc from the source to the sink, w: its room -/
def fs_lv (s t w : Nat) (et lf fe ne : Nat → Int32) : Prop := fe s = nI 0 ∧ ne 0 = -1 ∧ et 0 = nI t ∧ fe t = nI 1 ∧ ne 1 = -1 ∧ et 1 = nI s ∧ lf 0 = nI w ∧ lf 1 = 0
theorem fs_lv_to {s t w L : Nat} {et lf fe ne : Nat → Int32} (ht : t < 16) (hst : s ≠ t) (hw : w ≤ 99) (h : fs_lv s t w et lf fe ne) (hL : L ≤ w) : fs_to s t (nI L) et lf fe ne := by
  obtain ⟨h1, h2, h3, h4, h5, h6, h7, h8⟩ := h
  exact ⟨ht, Ne.symm hst, h1, h2, h3, by rw [h7]; exact nI_nlt hL (by omega), h4, h5, h6⟩
theorem fs_lv_no {s t w L : Nat} {et lf fe ne : Nat → Int32} (ht : t < 16) (h : fs_lv s t w et lf fe ne) (hL : w < L) (hL2 : L < 2 ^ 31) : fs_no s (nI L) et lf fe ne := by
  obtain ⟨h1, h2, h3, h4, h5, h6, h7, h8⟩ := h
  exact Or.inr ⟨0, t, by omega, ht, h1, h2, h3, by rw [h7]; exact nI_lt hL hL2⟩
theorem fs_lv_done {s t w L : Nat} {et lf lf' fe ne : Nat → Int32} (ht : t < 16) (h : fs_lv s t w et lf fe ne) (h0 : lf' 0 = 0) (hL : 0 < L) (hL2 : L < 2 ^ 31) : fs_no s (nI L) et lf' fe ne := by
  obtain ⟨h1, h2, h3, h4, h5, h6, h7, h8⟩ := h
  exact Or.inr ⟨0, t, by omega, ht, h1, h2, h3, by rw [h0]; exact nI_lt (a := 0) hL hL2⟩
theorem fs_fillWay {post : St2 → Prop} {pr so si ed fl qf qs oc : Int32} {fr tp ro et lf fe ne lv cu cb ex hg qu qd pa gn nd tr og : Nat → Int32} {s t w : Nat} (hs : s < 16) (ht : t < 16) (hst : s ≠ t) (hso : so = nI s) (hsi : si = nI t) (hw : w ≤ 99) (hcb : cb t = nI 0) (h6 : et 1 = nI s) (h7 : lf 0 = nI w) (h8 : lf 1 = 0)
    (H : ∀ (lf' : Nat → Int32), lf' 0 = 0 → lf' 1 = nI w → post (pr, so, si, ed, fl + nI w, qf, qs, oc, fr, tp, ro, et, lf', fe, ne, lv, cu, cb, ex, hg, qu, qd, pa, gn, nd, tr, og)) : wpX_fillWay post (pr, so, si, ed, fl, qf, qs, oc, fr, tp, ro, et, lf, fe, ne, lv, cu, cb, ex, hg, qu, qd, pa, gn, nd, tr, og) := by
  subst hso hsi
  unfold wpX_fillWay
  have ct : (nI t).toNatClampNeg = t := nI_clamp (by omega)
  have c0 : (nI 0).toNatClampNeg = 0 := nI_clamp (by omega)
  have c1 : (nI 1).toNatClampNeg = 1 := nI_clamp (by omega)
  have x0 : nI 0 ^^^ 1 = nI 1 := by decide
  have nts : ¬ nI t = nI s := by rw [nI_eq (by omega) (by omega)]; omega
  have it : vp_in (nI t) 16 := pk_in t 16 ht
  have i0 : vp_in (nI 0) 56 := pk_in 0 56 (by omega)
  have i1 : vp_in (nI 1) 56 := pk_in 1 56 (by omega)
  have k1 : vp_in (cb (nI t).toNatClampNeg) 56 := by rw [ct, hcb]; exact i0
  have k2 : vp_in (cb (nI t).toNatClampNeg ^^^ 1) 56 := by rw [ct, hcb, x0]; exact i1
  have k3 : lf (cb (nI t).toNatClampNeg).toNatClampNeg = nI w := by rw [ct, hcb, c0]; exact h7
  have k4 : et (cb (nI t).toNatClampNeg ^^^ 1).toNatClampNeg = nI s := by rw [ct, hcb, x0, c1]; exact h6
  have k5 : cb (nI t).toNatClampNeg = nI 0 := by rw [ct]; exact hcb
  refine ⟨2, br_f nts ⟨it, k1, br_f (by rw [k3]; exact nI_ge (b := 1048576) (by omega) (by omega)) ⟨it, k1, ?_⟩⟩⟩
  refine ⟨it, k2, nm_r k4 (br_t rfl ⟨2, br_f nts ⟨it, ?_⟩⟩)⟩
  rw [k3]
  refine fs_move (e := 0) (by omega) k5 ⟨it, k2, nm_r k4 (br_t rfl (nm_e (H _ ?_ ?_)))⟩
  · show upd lf 0 (lf 0 - nI w) 0 = 0
    rw [pk_us, h7, pk_sub (Nat.le_refl _), Nat.sub_self]
    rfl
  · show upd lf 0 (lf 0 - nI w) 1 + nI w = nI w
    rw [pk_un (by omega), h8]
    exact nI_add 0 w |>.trans (by rw [Nat.zero_add])
theorem fs_e0_dead {post : St2 → Prop} {pr so si ed fl qf qs oc : Int32} {fr tp ro et lf fe ne lv cu cb ex hg qu qd pa gn nd tr og : Nat → Int32} {s t : Nat} (hs : s < 16) (ht : t < 16) (hst : s ≠ t) (hso : so = nI s) (hsi : si = nI t) (hn : fs_dead s t 1 et lf fe ne)
    (H : fs_R post pr so si ed fr tp ro et fe ne (fun f l => f = fl ∧ l = lf)) : wpX_solveByShortestWays post (pr, so, si, ed, fl, qf, qs, oc, fr, tp, ro, et, lf, fe, ne, lv, cu, cb, ex, hg, qu, qd, pa, gn, nd, tr, og) := by
  unfold wpX_solveByShortestWays
  exact ⟨1, fs_fl_dead hs ht hst hso hsi hn (fun _ _ _ _ _ _ => br_t rfl (H _ _ _ _ _ _ _ _ _ _ _ _ _ _ _ _ _ ⟨rfl, rfl⟩))⟩
theorem fs_e0_live {post : St2 → Prop} {pr so si ed fl qf qs oc : Int32} {fr tp ro et lf fe ne lv cu cb ex hg qu qd pa gn nd tr og : Nat → Int32} {s t w : Nat} (hs : s < 16) (ht : t < 16) (hst : s ≠ t) (hso : so = nI s) (hsi : si = nI t) (hw : w ≤ 99) (hw0 : 0 < w) (hn : fs_lv s t w et lf fe ne)
    (H : fs_R post pr so si ed fr tp ro et fe ne (fun f l => f = fl + nI w ∧ l 0 = 0 ∧ l 1 = nI w)) : wpX_solveByShortestWays post (pr, so, si, ed, fl, qf, qs, oc, fr, tp, ro, et, lf, fe, ne, lv, cu, cb, ex, hg, qu, qd, pa, gn, nd, tr, og) := by
  have hn' := hn
  obtain ⟨h1, h2, h3, h4, h5, h6, h7, h8⟩ := hn
  unfold wpX_solveByShortestWays
  refine ⟨2, fs_fl_live hs ht hst hso hsi (fs_lv_to (L := 1) ht hst hw hn' (by omega)) (fun _ _ _ _ _ _ l1 l2 l3 l4 => br_f (by decide) (fs_fillWay hs ht hst hso hsi hw l4 h6 h7 h8 (fun lf' g0 g1 => ?_)))⟩
  exact fs_fl_no hs ht hst hso hsi (fs_lv_done (L := 1) ht hn' g0 (by omega) (by omega)) (fun _ _ _ _ _ _ => br_t rfl (H _ _ _ _ _ _ _ _ _ _ _ _ _ _ _ _ _ ⟨rfl, g0, g1⟩))
/-! engine 4 -/
theorem fs_half {k : Nat} (h : k ≤ 6) : nI (2 ^ (k + 1)) / 2 = nI (2 ^ k) := by
  have g : ∀ k, k ≤ 6 → nI (2 ^ (k + 1)) / 2 = nI (2 ^ k) := by decide +kernel
  exact g k h
theorem fs_p2 {k : Nat} (h : k ≤ 6) : 0 < 2 ^ k ∧ 2 ^ k ≤ 64 := by
  have g : ∀ k, k ≤ 6 → 0 < 2 ^ k ∧ 2 ^ k ≤ 64 := by decide
  exact g k h
theorem fs_h_done {post : St2 → Prop} {pr so si ed fl oc : Int32} {fr tp ro et lf fe ne cu ex hg pa gn nd tr og : Nat → Int32} {s t : Nat} (hs : s < 16) (ht : t < 16) (hst : s ≠ t) (hso : so = nI s) (hsi : si = nI t)
    (hn : ∀ L : Nat, 0 < L → L ≤ 64 → fs_dead s t (nI L) et lf fe ne)
    (H : ∀ (qf qs : Int32) (lv cb qu qd : Nat → Int32), post (pr, so, si, ed, fl, qf, qs, oc, fr, tp, ro, et, lf, fe, ne, lv, cu, cb, ex, hg, qu, qd, pa, gn, nd, tr, og)) :
    ∀ (k : Nat) (qf qs : Int32) (lv cb qu qd : Nat → Int32), k ≤ 6 → wX_solveByHalves_3 post (k + 2) (nI (2 ^ k)) pr so si ed fl qf qs oc fr tp ro et lf fe ne lv cu cb ex hg qu qd pa gn nd tr og := by
  intro k
  induction k with
  | zero =>
    intro qf qs lv cb qu qd _
    refine br_f (by decide) ⟨1, fs_fl_dead hs ht hst hso hsi (hn 1 (by omega) (by omega)) (fun _ _ _ _ _ _ => br_t rfl ⟨by decide, nm_r (show (nI (2 ^ 0)) / 2 = 0 by decide) (br_t (by decide) (H _ _ _ _ _ _))⟩)⟩
  | succ k ih =>
    intro qf qs lv cb qu qd hk
    have hp := fs_p2 (k := k + 1) hk
    refine br_f (nI_nle (by omega) (by omega)) ⟨1, fs_fl_dead hs ht hst hso hsi (hn (2 ^ (k + 1)) (by omega) (by omega)) (fun _ _ _ _ _ _ => br_t rfl ⟨by decide, nm_r (fs_half (by omega)) (ih _ _ _ _ _ _ (by omega))⟩)⟩
theorem fs_h_live {post : St2 → Prop} {pr so si ed fl oc : Int32} {fr tp ro et lf fe ne cu ex hg pa gn nd tr og : Nat → Int32} {s t w : Nat} (hs : s < 16) (ht : t < 16) (hst : s ≠ t) (hso : so = nI s) (hsi : si = nI t)
    (hw : w ≤ 99) (hw0 : 0 < w) (hn : fs_lv s t w et lf fe ne)
    (H : ∀ (qf qs : Int32) (lf' lv cb qu qd : Nat → Int32), lf' 0 = 0 → lf' 1 = nI w → post (pr, so, si, ed, fl + nI w, qf, qs, oc, fr, tp, ro, et, lf', fe, ne, lv, cu, cb, ex, hg, qu, qd, pa, gn, nd, tr, og)) :
    ∀ (k : Nat) (qf qs : Int32) (lv cb qu qd : Nat → Int32), k ≤ 6 → w < 2 ^ (k + 1) → wX_solveByHalves_3 post (k + 2) (nI (2 ^ k)) pr so si ed fl qf qs oc fr tp ro et lf fe ne lv cu cb ex hg qu qd pa gn nd tr og := by
  have hn' := hn
  obtain ⟨h1, h2, h3, h4, h5, h6, h7, h8⟩ := hn
  intro k
  induction k with
  | zero =>
    intro qf qs lv cb qu qd _ hk
    refine br_f (by decide) ⟨2, fs_fl_live hs ht hst hso hsi (fs_lv_to (L := 1) ht hst hw hn' (by omega)) (fun _ _ _ _ _ _ l1 l2 l3 l4 => br_f (by decide) (fs_fillWay hs ht hst hso hsi hw l4 h6 h7 h8 (fun lf' g0 g1 => ?_)))⟩
    exact fs_fl_no hs ht hst hso hsi (fs_lv_done (L := 1) ht hn' g0 (by omega) (by omega)) (fun _ _ _ _ _ _ => br_t rfl ⟨by decide, nm_r (show (nI (2 ^ 0)) / 2 = 0 by decide) (br_t (by decide) (H _ _ _ _ _ _ _ g0 g1))⟩)
  | succ k ih =>
    intro qf qs lv cb qu qd hk hk2
    have hp := fs_p2 (k := k + 1) hk
    refine br_f (nI_nle (by omega) (by omega)) ?_
    by_cases z : w < 2 ^ (k + 1)
    · exact ⟨1, fs_fl_no hs ht hst hso hsi (fs_lv_no ht hn' z (by omega)) (fun _ _ _ _ _ _ => br_t rfl ⟨by decide, nm_r (fs_half (by omega)) (ih _ _ _ _ _ _ (by omega) z)⟩)⟩
    · refine ⟨2, fs_fl_live hs ht hst hso hsi (fs_lv_to ht hst hw hn' (by omega)) (fun _ _ _ _ _ _ l1 l2 l3 l4 => br_f (by decide) (fs_fillWay hs ht hst hso hsi hw l4 h6 h7 h8 (fun lf' g0 g1 => ?_)))⟩
      refine fs_fl_no hs ht hst hso hsi (fs_lv_done ht hn' g0 (by omega) (by omega)) (fun _ _ _ _ _ _ => br_t rfl ⟨by decide, nm_r (fs_half (by omega)) ?_⟩)
      exact fs_h_done hs ht hst hso hsi (fun L hL hL2 => Or.inl (fs_lv_done ht hn' g0 hL (by omega))) (fun _ _ _ _ _ _ => H _ _ _ _ _ _ _ g0 g1) k _ _ _ _ _ _ (by omega)
theorem fs_e4_dead {post : St2 → Prop} {pr so si ed fl qf qs oc : Int32} {fr tp ro et lf fe ne lv cu cb ex hg qu qd pa gn nd tr og : Nat → Int32} {s t : Nat} (hs : s < 16) (ht : t < 16) (hst : s ≠ t) (hso : so = nI s) (hsi : si = nI t) (hn : ∀ L : Nat, 0 < L → L ≤ 64 → fs_dead s t (nI L) et lf fe ne)
    (H : fs_R post pr so si ed fr tp ro et fe ne (fun f l => f = fl ∧ l = lf)) : wpX_solveByHalves post (pr, so, si, ed, fl, qf, qs, oc, fr, tp, ro, et, lf, fe, ne, lv, cu, cb, ex, hg, qu, qd, pa, gn, nd, tr, og) := by
  unfold wpX_solveByHalves
  exact ⟨8, fs_h_done hs ht hst hso hsi hn (fun _ _ _ _ _ _ => H _ _ _ _ _ _ _ _ _ _ _ _ _ _ _ _ _ ⟨rfl, rfl⟩) 6 _ _ _ _ _ _ (by omega)⟩
theorem fs_e4_live {post : St2 → Prop} {pr so si ed fl qf qs oc : Int32} {fr tp ro et lf fe ne lv cu cb ex hg qu qd pa gn nd tr og : Nat → Int32} {s t w : Nat} (hs : s < 16) (ht : t < 16) (hst : s ≠ t) (hso : so = nI s) (hsi : si = nI t) (hw : w ≤ 99) (hw0 : 0 < w) (hn : fs_lv s t w et lf fe ne)
    (H : fs_R post pr so si ed fr tp ro et fe ne (fun f l => f = fl + nI w ∧ l 0 = 0 ∧ l 1 = nI w)) : wpX_solveByHalves post (pr, so, si, ed, fl, qf, qs, oc, fr, tp, ro, et, lf, fe, ne, lv, cu, cb, ex, hg, qu, qd, pa, gn, nd, tr, og) := by
  unfold wpX_solveByHalves
  exact ⟨8, fs_h_live hs ht hst hso hsi hw hw0 hn (fun _ _ _ _ _ _ _ g0 g1 => H _ _ _ _ _ _ _ _ _ _ _ _ _ _ _ _ _ ⟨rfl, g0, g1⟩) 6 _ _ _ _ _ _ (by omega) (by omega)⟩
/-! engine 1 -/
theorem fs_leads {post : Int32 → Prop} {pr so si ed fl qf qs oc : Int32} {fr tp ro et lf fe ne lv cu cb ex hg qu qd pa gn nd tr og : Nat → Int32} {u e v : Nat} {x y : Int32} (hu : u < 16) (he : e < 56) (hv : v < 16) (hx : x = nI u) (hy : y = nI e) (het : et e = nI v)
    (H0 : (lf e ≤ 0 ∨ ¬ lv v = lv u + 1) → post 0) (H1 : ¬ lf e ≤ 0 → lv v = lv u + 1 → post 1) : wpX_leadsOn post (pr, so, si, ed, fl, qf, qs, oc, fr, tp, ro, et, lf, fe, ne, lv, cu, cb, ex, hg, qu, qd, pa, gn, nd, tr, og) x y := by
  subst hx hy
  unfold wpX_leadsOn
  dsimp only
  have ce : (nI e).toNatClampNeg = e := nI_clamp (by omega)
  have cv : (nI v).toNatClampNeg = v := nI_clamp (by omega)
  have cu : (nI u).toNatClampNeg = u := nI_clamp (by omega)
  rw [ce, het, cv, cu]
  exact ⟨pk_in e 56 he, br_c (fun z => H0 (Or.inl z)) (fun z => ⟨pk_in e 56 he, pk_in v 16 hv, pk_in u 16 hu, br_c (fun y => H1 z y) (fun y => H0 (Or.inr y))⟩)⟩
theorem fs_fillPath {post : Int32 → St2 → Prop} {pr so si ed fl qf qs oc : Int32} {fr tp ro et lf fe ne lv cu cb ex hg qu qd pa gn nd tr og : Nat → Int32} {w : Nat} (hw : w ≤ 99) (hpa : pa 0 = nI 0) (h7 : lf 0 = nI w) (h8 : lf 1 = 0)
    (H : ∀ (lf' : Nat → Int32), lf' 0 = 0 → lf' 1 = nI w → post (nI 0) (pr, so, si, ed, fl + nI w, qf, qs, oc, fr, tp, ro, et, lf', fe, ne, lv, cu, cb, ex, hg, qu, qd, pa, gn, nd, tr, og)) : wpX_fillPath post (pr, so, si, ed, fl, qf, qs, oc, fr, tp, ro, et, lf, fe, ne, lv, cu, cb, ex, hg, qu, qd, pa, gn, nd, tr, og) (nI 1) := by
  unfold wpX_fillPath
  have c0 : (nI 0).toNatClampNeg = 0 := nI_clamp (by omega)
  have j0 : vp_in (nI 0) 16 := pk_in 0 16 (by omega)
  have i0 : vp_in (nI 0) 56 := pk_in 0 56 (by omega)
  have k5 : pa (nI 0).toNatClampNeg = nI 0 := by rw [c0]; exact hpa
  have k1 : vp_in (pa (nI 0).toNatClampNeg) 56 := by rw [k5]; exact i0
  have k3 : lf (pa (nI 0).toNatClampNeg).toNatClampNeg = nI w := by rw [k5, c0]; exact h7
  have e0 : (upd (upd lf 0 (lf 0 - nI w)) (0 ^^^ 1) ((upd lf 0 (lf 0 - nI w)) (0 ^^^ 1) + nI w)) 0 = 0 := by
    show upd lf 0 (lf 0 - nI w) 0 = 0
    rw [pk_us, h7, pk_sub (Nat.le_refl _), Nat.sub_self]
    rfl
  have e1 : (upd (upd lf 0 (lf 0 - nI w)) (0 ^^^ 1) ((upd lf 0 (lf 0 - nI w)) (0 ^^^ 1) + nI w)) 1 = nI w := by
    show upd lf 0 (lf 0 - nI w) 1 + nI w = nI w
    rw [pk_un (by omega), h8]
    exact nI_add 0 w |>.trans (by rw [Nat.zero_add])
  refine ⟨2, br_f (nI_ge (a := 0) (b := 1) (by omega) (by omega)) ⟨j0, k1, br_f (show ¬ (1048576 : Int32) ≤ lf (pa (nI 0).toNatClampNeg).toNatClampNeg by rw [k3]; exact nI_ge (b := 1048576) (by omega) (by omega)) ⟨j0, k1, nm_r k3 (nm_r (nI_1 0) ?_)⟩⟩⟩
  refine br_t (nI_le (Nat.le_refl _) (by omega)) (nm_r (nI_pred 0) ⟨2, br_f (nI_pos (by omega)) ⟨j0, ?_⟩⟩)
  refine fs_move (e := 0) (by omega) k5 ⟨j0, k1, br_t (by rw [k5, c0]; exact e0) (nm_r (show nI 0 + (-1) = -1 by decide) (br_t (by decide) (nm_e (H _ e0 e1))))⟩
theorem fs_fillLevels {post : St2 → Prop} {pr so si ed fl qf qs oc : Int32} {fr tp ro et lf fe ne lv cu cb ex hg qu qd pa gn nd tr og : Nat → Int32} {s t w : Nat} (hs : s < 16) (ht : t < 16) (hst : s ≠ t) (hso : so = nI s) (hsi : si = nI t) (hw : w ≤ 99) (hw0 : 0 < w) (hn : fs_lv s t w et lf fe ne)
    (l1 : lv s = 0) (l2 : lv t = 1) (hcu : cu s = nI 0)
    (H : ∀ (lf' cu' pa' : Nat → Int32), lf' 0 = 0 → lf' 1 = nI w → post (pr, so, si, ed, fl + nI w, qf, qs, oc, fr, tp, ro, et, lf', fe, ne, lv, cu', cb, ex, hg, qu, qd, pa', gn, nd, tr, og)) : wpX_fillLevels post (pr, so, si, ed, fl, qf, qs, oc, fr, tp, ro, et, lf, fe, ne, lv, cu, cb, ex, hg, qu, qd, pa, gn, nd, tr, og) := by
  obtain ⟨h1, h2, h3, h4, h5, h6, h7, h8⟩ := hn
  subst hso hsi
  unfold wpX_fillLevels
  have cs : (nI s).toNatClampNeg = s := nI_clamp (by omega)
  have c0 : (nI 0).toNatClampNeg = 0 := nI_clamp (by omega)
  have c1 : (nI 1).toNatClampNeg = 1 := nI_clamp (by omega)
  have x0 : nI 0 ^^^ 1 = nI 1 := by decide
  have nst : ¬ nI s = nI t := by rw [nI_eq (by omega) (by omega)]; omega
  have is : vp_in (nI s) 16 := pk_in s 16 hs
  have j0 : vp_in (nI 0) 16 := pk_in 0 16 (by omega)
  have i0 : vp_in (nI 0) 56 := pk_in 0 56 (by omega)
  have i1 : vp_in (nI 1) 56 := pk_in 1 56 (by omega)
  have q1 : cu (nI s).toNatClampNeg = nI 0 := by rw [cs]; exact hcu
  have q2 : vp_in (cu (nI s).toNatClampNeg) 56 := by rw [q1]; exact i0
  have q3 : ¬ cu (nI s).toNatClampNeg < 0 := by rw [q1]; decide
  have q4 : et (cu (nI s).toNatClampNeg).toNatClampNeg = nI t := by rw [q1, c0]; exact h3
  refine ⟨4, br_f (by decide) ⟨1, br_f nst ⟨is, br_f q3 ⟨is, fs_leads (u := s) (e := 0) (v := t) hs (by omega) ht rfl q1 h3 (fun z => ?_) (fun _ _ => br_f (by decide) ?_)⟩⟩⟩⟩
  · exfalso
    rcases z with z | z
    · rw [h7] at z
      exact nI_nle hw0 (by omega) z
    · exact z (by rw [l1, l2]; decide)
  · refine br_f nst ⟨is, br_f q3 ⟨is, j0, nm_r (show upd pa (nI 0).toNatClampNeg (vp_nar .byte (cu (nI s).toNatClampNeg)) = upd pa 0 (nI 0) by rw [q1, c0, fs_nb (by omega)]) ⟨is, q2, nm_r q4 (nm_r (nI_1 0) ?_)⟩⟩⟩
    refine br_f (by decide) ⟨1, br_t rfl (br_t rfl (fs_fillPath hw pk_us h7 h8 (fun lf' g0 g1 => ?_)))⟩
    have q5 : upd pa 0 (nI 0) (nI 0).toNatClampNeg = nI 0 := by rw [c0]; exact pk_us
    refine ⟨j0, by rw [q5, x0]; exact i1, nm_r (show et (upd pa 0 (nI 0) (nI 0).toNatClampNeg ^^^ 1).toNatClampNeg = nI s by rw [q5, x0, c1]; exact h6) ?_⟩
    refine br_f (by decide) ⟨2, br_f nst ⟨is, br_f q3 ⟨is, fs_leads (u := s) (e := 0) (v := t) hs (by omega) ht rfl q1 h3 (fun _ => br_t rfl ?_) (fun z _ => absurd (show lf' 0 ≤ 0 by rw [g0]; decide) z)⟩⟩⟩
    refine ⟨is, q2, is, nm_r (show upd cu (nI s).toNatClampNeg (vp_nar .byte (ne (cu (nI s).toNatClampNeg).toNatClampNeg)) = upd cu s (-1) by rw [q1, cs, c0, h2]; rw [show vp_nar .byte (-1) = -1 from fs_nbm]) ?_⟩
    have q6 : upd cu s (-1) (nI s).toNatClampNeg < 0 := by rw [cs, pk_us]; decide
    exact br_f nst ⟨is, br_t q6 (br_f nst ⟨is, br_t q6 (br_t rfl (br_t rfl (H _ _ _ g0 g1)))⟩)⟩
theorem fs_e1_dead {post : St2 → Prop} {pr so si ed fl qf qs oc : Int32} {fr tp ro et lf fe ne lv cu cb ex hg qu qd pa gn nd tr og : Nat → Int32} {s t : Nat} (hs : s < 16) (ht : t < 16) (hst : s ≠ t) (hso : so = nI s) (hsi : si = nI t) (hn : fs_dead s t 1 et lf fe ne)
    (H : fs_R post pr so si ed fr tp ro et fe ne (fun f l => f = fl ∧ l = lf)) : wpX_solveByLevels post (pr, so, si, ed, fl, qf, qs, oc, fr, tp, ro, et, lf, fe, ne, lv, cu, cb, ex, hg, qu, qd, pa, gn, nd, tr, og) := by
  unfold wpX_solveByLevels
  exact ⟨1, fs_fl_dead hs ht hst hso hsi hn (fun _ _ _ _ _ _ => br_t rfl (H _ _ _ _ _ _ _ _ _ _ _ _ _ _ _ _ _ ⟨rfl, rfl⟩))⟩
theorem fs_e1_10 {post : St2 → Prop} {J : fs_J8} {pr so si ed fl qf qs oc : Int32} {fr tp ro et lf fe ne lv cu cb ex hg qu qd pa gn nd tr og : Nat → Int32} (H : ∀ (cu' : Nat → Int32), (∀ j, j < 16 → cu' j = vp_nar .byte (fe j)) → wpX_fillLevels (fun u => match u with | (pr, so, si, ed, fl, qf, qs, oc, fr, tp, ro, et, lf, fe, ne, lv, cu, cb, ex, hg, qu, qd, pa, gn, nd, tr, og) => J pr so si ed fl qf qs oc fr tp ro et lf fe ne lv cu cb ex hg qu qd pa gn nd tr og) (pr, so, si, ed, fl, qf, qs, oc, fr, tp, ro, et, lf, fe, ne, lv, cu', cb, ex, hg, qu, qd, pa, gn, nd, tr, og)) :
    ∃ n, wX_solveByLevels_10 post J pr so si ed fl qf qs oc n 0 fr tp ro et lf fe ne lv cu cb ex hg qu qd pa gn nd tr og :=
  fs_fill (fun n i s => wX_solveByLevels_10 post J pr so si ed fl qf qs oc n i fr tp ro et lf fe ne lv s cb ex hg qu qd pa gn nd tr og) 16 (fun j => vp_nar .byte (fe j)) cu
    (fun n i s hi hw => pk_le 16 i (fun z => absurd z (by omega)) (fun _ => ⟨pk_in i 16 hi, pk_in i 16 hi, nm_r (by rw [nI_clamp (by omega)]) (nm_r (nI_1 i) hw)⟩))
    (fun n s h => pk_le 16 16 (fun _ => H s h) (fun z => absurd z (by omega)))
theorem fs_e1_live {post : St2 → Prop} {pr so si ed fl qf qs oc : Int32} {fr tp ro et lf fe ne lv cu cb ex hg qu qd pa gn nd tr og : Nat → Int32} {s t w : Nat} (hs : s < 16) (ht : t < 16) (hst : s ≠ t) (hso : so = nI s) (hsi : si = nI t) (hw : w ≤ 99) (hw0 : 0 < w) (hn : fs_lv s t w et lf fe ne)
    (H : fs_R post pr so si ed fr tp ro et fe ne (fun f l => f = fl + nI w ∧ l 0 = 0 ∧ l 1 = nI w)) : wpX_solveByLevels post (pr, so, si, ed, fl, qf, qs, oc, fr, tp, ro, et, lf, fe, ne, lv, cu, cb, ex, hg, qu, qd, pa, gn, nd, tr, og) := by
  unfold wpX_solveByLevels
  refine ⟨2, fs_fl_live hs ht hst hso hsi (fs_lv_to (L := 1) ht hst hw hn (by omega)) (fun _ _ _ _ _ _ l1 l2 l3 l4 => br_f (by decide) (fs_e1_10 (fun cu' hc => ?_)))⟩
  refine fs_fillLevels hs ht hst hso hsi hw hw0 hn l1 l2 (by rw [hc s hs, hn.1]; exact fs_nb (by omega)) (fun lf' cu2 pa' g0 g1 => ?_)
  exact fs_fl_no hs ht hst hso hsi (fs_lv_done (L := 1) ht hn g0 (by omega) (by omega)) (fun _ _ _ _ _ _ => br_t rfl (H _ _ _ _ _ _ _ _ _ _ _ _ _ _ _ _ _ ⟨rfl, g0, g1⟩))
end
section
/-! pushing: engine 2 exactly -/
/-- what a move leaves of the rooms -/
def fs_mv (lf : Nat → Int32) (e : Nat) (y : Int32) : Nat → Int32 := upd (upd lf e (lf e - y)) (e ^^^ 1) ((upd lf e (lf e - y)) (e ^^^ 1) + y)
/-- what a push leaves of the excesses -/
def fs_xs (ex : Nat → Int32) (u v : Nat) (y : Int32) : Nat → Int32 := upd (upd ex u (ex u - y)) v ((upd ex u (ex u - y)) v + y)
theorem fs_mv0 (lf : Nat → Int32) (e k : Nat) : fs_mv lf e (nI 0) k = lf k := by
  unfold fs_mv
  have s0 : lf e - nI 0 = lf e := by rw [nI_0]; exact Int32.sub_zero _
  have s1 : ∀ x : Int32, x + nI 0 = x := fun x => by rw [nI_0]; exact Int32.add_zero _
  have u0 : upd lf e (lf e) = lf := by
    funext j
    by_cases z : j = e
    · rw [z, pk_us]
    · rw [pk_un z]
  rw [s0, u0, s1]
  by_cases z : k = e ^^^ 1
  · rw [z, pk_us]
  · rw [pk_un z]
theorem fs_mv00 {lf : Nat → Int32} {w : Nat} (h : lf 0 = nI w) : fs_mv lf 0 (nI w) 0 = 0 := by
  show upd lf 0 (lf 0 - nI w) 0 = 0
  rw [pk_us, h, pk_sub (Nat.le_refl _), Nat.sub_self]
  rfl
theorem fs_mv01 {lf : Nat → Int32} {w : Nat} (h : lf 1 = 0) : fs_mv lf 0 (nI w) 1 = nI w := by
  show upd lf 0 (lf 0 - nI w) 1 + nI w = nI w
  rw [pk_un (by omega), h]
  exact nI_add 0 w |>.trans (by rw [Nat.zero_add])
theorem fs_mv10 {lf : Nat → Int32} {w : Nat} (h : lf 0 = 0) : fs_mv lf 1 (nI w) 0 = nI w := by
  show upd lf 1 (lf 1 - nI w) 0 + nI w = nI w
  rw [pk_un (by omega), h]
  exact nI_add 0 w |>.trans (by rw [Nat.zero_add])
theorem fs_mv11 {lf : Nat → Int32} {w : Nat} (h : lf 1 = nI w) : fs_mv lf 1 (nI w) 1 = 0 := by
  show upd lf 1 (lf 1 - nI w) 1 = 0
  rw [pk_us, h, pk_sub (Nat.le_refl _), Nat.sub_self]
  rfl
theorem fs_xsv {ex : Nat → Int32} {u v w : Nat} (huv : v ≠ u) (h : ex v = 0) : fs_xs ex u v (nI w) v = nI w := by
  unfold fs_xs
  rw [pk_us, pk_un huv, h]
  exact nI_add 0 w |>.trans (by rw [Nat.zero_add])
theorem fs_xsu {ex : Nat → Int32} {u v w : Nat} (huv : v ≠ u) (h : ex u = nI w) : fs_xs ex u v (nI w) u = 0 := by
  unfold fs_xs
  rw [pk_un (Ne.symm huv), pk_us, h, pk_sub (Nat.le_refl _), Nat.sub_self]
  rfl
theorem fs_xsj {ex : Nat → Int32} {u v j : Nat} {y : Int32} (h1 : j ≠ u) (h2 : j ≠ v) : fs_xs ex u v y j = ex j := by
  unfold fs_xs
  rw [pk_un h2, pk_un h1]
theorem fs_push_q {post : St2 → Prop} {pr so si ed fl qf qs oc : Int32} {fr tp ro et lf fe ne lv cu cb ex hg qu qd pa gn nd tr og : Nat → Int32} {u e v : Nat} {x y z : Int32} (hu : u < 16) (he : e < 56) (hv : v < 16) (hx : x = nI u) (hy : y = nI e) (het : et e = nI v)
    (hq : z ≤ 0 ∨ nI v = so ∨ nI v = si) (H : post (pr, so, si, ed, fl, qf, qs, oc, fr, tp, ro, et, fs_mv lf e z, fe, ne, lv, cu, cb, fs_xs ex u v z, hg, qu, qd, pa, gn, nd, tr, og)) : wpX_pushAlong post (pr, so, si, ed, fl, qf, qs, oc, fr, tp, ro, et, lf, fe, ne, lv, cu, cb, ex, hg, qu, qd, pa, gn, nd, tr, og) x y z := by
  subst hx hy
  have ce : (nI e).toNatClampNeg = e := nI_clamp (by omega)
  have cv : (nI v).toNatClampNeg = v := nI_clamp (by omega)
  have cu' : (nI u).toNatClampNeg = u := nI_clamp (by omega)
  have iu : vp_in (nI u) 16 := pk_in u 16 hu
  have iv : vp_in (nI v) 16 := pk_in v 16 hv
  unfold wpX_pushAlong
  refine ⟨pk_in e 56 he, nm_r (show et (nI e).toNatClampNeg = nI v by rw [ce]; exact het) (fs_move he rfl ⟨iu, iu, nm_r (by rw [cu']) ⟨iv, iv, nm_r (by rw [cv]) ?_⟩⟩)⟩
  by_cases a : z ≤ 0
  · exact br_t a H
  · by_cases b : nI v = so
    · exact br_f a (br_t b H)
    · exact br_f a (br_f b (br_t ((hq.resolve_left a).resolve_left b) H))
theorem fs_push_e {post : St2 → Prop} {pr so si ed fl qf qs oc : Int32} {fr tp ro et lf fe ne lv cu cb ex hg qu qd pa gn nd tr og : Nat → Int32} {u e v i k : Nat} {x y z : Int32} (hu : u < 16) (he : e < 56) (hv : v < 16) (hx : x = nI u) (hy : y = nI e) (het : et e = nI v)
    (h1 : ¬ z ≤ 0) (h2 : ¬ nI v = so) (h3 : ¬ nI v = si) (hf : qf = nI i) (hk : qs = nI k) (hi : i + k < 64) (hq : qd v = 0)
    (H : post (pr, so, si, ed, fl, qf, nI (k + 1), oc, fr, tp, ro, et, fs_mv lf e z, fe, ne, lv, cu, cb, fs_xs ex u v z, hg, upd qu (i + k) (nI v), upd qd v 1, pa, gn, nd, tr, og)) : wpX_pushAlong post (pr, so, si, ed, fl, qf, qs, oc, fr, tp, ro, et, lf, fe, ne, lv, cu, cb, ex, hg, qu, qd, pa, gn, nd, tr, og) x y z := by
  subst hx hy
  have ce : (nI e).toNatClampNeg = e := nI_clamp (by omega)
  have cv : (nI v).toNatClampNeg = v := nI_clamp (by omega)
  have cu' : (nI u).toNatClampNeg = u := nI_clamp (by omega)
  have iu : vp_in (nI u) 16 := pk_in u 16 hu
  have iv : vp_in (nI v) 16 := pk_in v 16 hv
  unfold wpX_pushAlong
  refine ⟨pk_in e 56 he, nm_r (show et (nI e).toNatClampNeg = nI v by rw [ce]; exact het) (fs_move he rfl ⟨iu, iu, nm_r (by rw [cu']) ⟨iv, iv, nm_r (by rw [cv]) ?_⟩⟩)⟩
  exact br_f h1 (br_f h2 (br_f h3 (fs_enq hv rfl hf hk hi hq H)))
theorem fs_push_any {post : St2 → Prop} {pr so si ed fl qf qs oc : Int32} {fr tp ro et lf fe ne lv cu cb ex hg qu qd pa gn nd tr og : Nat → Int32} {u e v : Nat} {x y z : Int32} (hu : u < 16) (he : e < 56) (hv : v < 16) (hx : x = nI u) (hy : y = nI e) (het : et e = nI v)
    (H : ∀ (qs' : Int32) (qu' qd' : Nat → Int32), post (pr, so, si, ed, fl, qf, qs', oc, fr, tp, ro, et, fs_mv lf e z, fe, ne, lv, cu, cb, fs_xs ex u v z, hg, qu', qd', pa, gn, nd, tr, og)) : wpX_pushAlong post (pr, so, si, ed, fl, qf, qs, oc, fr, tp, ro, et, lf, fe, ne, lv, cu, cb, ex, hg, qu, qd, pa, gn, nd, tr, og) x y z := by
  subst hx hy
  have ce : (nI e).toNatClampNeg = e := nI_clamp (by omega)
  have cv : (nI v).toNatClampNeg = v := nI_clamp (by omega)
  have cu' : (nI u).toNatClampNeg = u := nI_clamp (by omega)
  have iu : vp_in (nI u) 16 := pk_in u 16 hu
  have iv : vp_in (nI v) 16 := pk_in v 16 hv
  unfold wpX_pushAlong
  refine ⟨pk_in e 56 he, nm_r (show et (nI e).toNatClampNeg = nI v by rw [ce]; exact het) (fs_move he rfl ⟨iu, iu, nm_r (by rw [cu']) ⟨iv, iv, nm_r (by rw [cv]) ?_⟩⟩)⟩
  exact br_c (fun _ => H qs qu qd) (fun _ => br_c (fun _ => H qs qu qd) (fun _ => br_c (fun _ => H qs qu qd) (fun _ => fs_enq_any hv rfl (fun _ _ _ => H _ _ _))))
/-- the levels as pushing begins -/
def fs_l0v (s : Nat) (j : Nat) : Nat := if j = s then 16 else 0
theorem fs_sp27 {post : St2 → Prop} {pr so si ed fl qf qs oc : Int32} {fr tp ro et lf fe ne lv cu cb ex hg qu qd pa gn nd tr og : Nat → Int32} {s : Nat} (hs : s < 16) (hso : so = nI s)
    (H : ∀ (lv' ex' hg' : Nat → Int32), (∀ j, j < 16 → ex' j = 0) → (∀ j, j < 16 → lv' j = nI (fs_l0v s j)) → ∃ n, wX_startPushing_91 post n (fe s) pr so si ed fl qf qs oc fr tp ro et lf fe ne lv' cu cb ex' hg' qu qd pa gn nd tr og) :
    ∃ n, wX_startPushing_27 post pr so si ed fl qf qs oc n 0 fr tp ro et lf fe ne lv cu cb ex hg qu qd pa gn nd tr og := by
  subst hso
  refine pk_loop (fun n i (z : (Nat → Int32) × (Nat → Int32) × (Nat → Int32)) => wX_startPushing_27 post pr (nI s) si ed fl qf qs oc n (nI i) fr tp ro et lf fe ne z.1 cu cb z.2.1 z.2.2 qu qd pa gn nd tr og)
    (fun i z => (∀ j, j < i → z.2.1 j = 0) ∧ (∀ j, j < i → z.1 j = nI (fs_l0v s j))) 16 0 (lv, ex, hg) (by omega) ⟨fun j hj => absurd hj (by omega), fun j hj => absurd hj (by omega)⟩ ?_ ?_
  · rintro n ⟨lv', ex', hg'⟩ ⟨h1, h2⟩
    exact pk_le 16 16 (fun _ => ⟨pk_in s 16 hs, nm_r (show fe (nI s).toNatClampNeg = fe s by rw [nI_clamp (by omega)]) (H lv' ex' hg' h1 h2)⟩) (fun z => absurd z (by omega))
  · rintro n i ⟨lv', ex', hg'⟩ hi ⟨h1, h2⟩ hw
    have ci : (nI i).toNatClampNeg = i := nI_clamp (by omega)
    have ii : vp_in (nI i) 16 := pk_in i 16 hi
    have e1 : ∀ j, j < i + 1 → upd ex' i 0 j = 0 := fs_eta (f := fun _ => 0) h1 rfl
    refine pk_le 16 i (fun z => absurd z (by omega)) (fun _ => ⟨ii, nm_r (by rw [ci]) (pk_eq i s (fun z => ?_) (fun z => ?_))⟩)
    · have e2 : ∀ j, j < i + 1 → upd lv' i (nI 16) j = nI (fs_l0v s j) := fs_eta (f := fun j => nI (fs_l0v s j)) h2 (by show nI 16 = nI (fs_l0v s i); unfold fs_l0v; rw [if_pos z])
      have q : upd lv' i (nI 16) (nI i).toNatClampNeg = nI 16 := by rw [ci, pk_us]
      have v16 : vp_in (upd lv' i (nI 16) (nI i).toNatClampNeg) 64 := by rw [q]; exact pk_in 16 64 (by omega)
      exact ⟨ii, nm_r (show upd lv' (nI i).toNatClampNeg 16 = upd lv' i (nI 16) by rw [ci]; rfl) ⟨ii, v16, v16, nm_e (nm_r (nI_1 i) (hw (_, _, _) ⟨e1, e2⟩))⟩⟩
    · have e2 : ∀ j, j < i + 1 → upd lv' i (nI 0) j = nI (fs_l0v s j) := fs_eta (f := fun j => nI (fs_l0v s j)) h2 (by show nI 0 = nI (fs_l0v s i); unfold fs_l0v; rw [if_neg z])
      have q : upd lv' i (nI 0) (nI i).toNatClampNeg = nI 0 := by rw [ci, pk_us]
      have v16 : vp_in (upd lv' i (nI 0) (nI i).toNatClampNeg) 64 := by rw [q]; exact pk_in 0 64 (by omega)
      exact ⟨ii, nm_r (show upd lv' (nI i).toNatClampNeg 0 = upd lv' i (nI 0) by rw [ci]; rfl) ⟨ii, v16, v16, nm_e (nm_r (nI_1 i) (hw (_, _, _) ⟨e1, e2⟩))⟩⟩
theorem fs_sp {post : St2 → Prop} {pr so si ed fl qf qs oc : Int32} {fr tp ro et lf fe ne lv cu cb ex hg qu qd pa gn nd tr og : Nat → Int32} {s : Nat} (hs : s < 16) (hso : so = nI s)
    (H : ∀ (lv' ex' hg' qd' : Nat → Int32), (∀ j, j < 16 → ex' j = 0) → (∀ j, j < 16 → lv' j = nI (fs_l0v s j)) → (∀ j, j < 16 → qd' j = 0) → ∃ n, wX_startPushing_91 post n (fe s) pr so si ed fl (nI 0) (nI 0) oc fr tp ro et lf fe ne lv' cu cb ex' hg' qu qd' pa gn nd tr og) :
    wpX_startPushing post (pr, so, si, ed, fl, qf, qs, oc, fr, tp, ro, et, lf, fe, ne, lv, cu, cb, ex, hg, qu, qd, pa, gn, nd, tr, og) := by
  unfold wpX_startPushing
  refine fs_clearQueue (fun qd' hq => ?_)
  refine fs_fill (fun n i s => wX_startPushing_6 post pr so si ed fl 0 0 oc n i fr tp ro et lf fe ne lv cu cb ex s qu qd' pa gn nd tr og) 64 (fun _ => 0) hg
    (fun n i s hi hw => pk_le 64 i (fun z => absurd z (by omega)) (fun _ => ⟨pk_in i 64 hi, nm_r (by rw [nI_clamp (by omega)]) (nm_r (nI_1 i) hw)⟩))
    (fun n hg' _ => pk_le 64 64 (fun _ => ?_) (fun z => absurd z (by omega)))
  exact fs_sp27 hs hso (fun lv' ex' hg2 h1 h2 => H lv' ex' hg2 qd' h1 h2 hq)
theorem fs_sp_none {post : St2 → Prop} {pr so si ed fl qf qs oc : Int32} {fr tp ro et lf fe ne lv cu cb ex hg qu qd pa gn nd tr og : Nat → Int32} {s : Nat} (hs : s < 16) (hso : so = nI s) (hn : fe s = -1)
    (H : ∀ (lv' ex' hg' qd' : Nat → Int32), (∀ j, j < 16 → ex' j = 0) → (∀ j, j < 16 → lv' j = nI (fs_l0v s j)) → post (pr, so, si, ed, fl, nI 0, nI 0, oc, fr, tp, ro, et, lf, fe, ne, lv', cu, cb, ex', hg', qu, qd', pa, gn, nd, tr, og)) : wpX_startPushing post (pr, so, si, ed, fl, qf, qs, oc, fr, tp, ro, et, lf, fe, ne, lv, cu, cb, ex, hg, qu, qd, pa, gn, nd, tr, og) := by
  refine fs_sp hs hso (fun lv' ex' hg' qd' h1 h2 h3 => ?_)
  rw [hn]
  exact ⟨1, br_t (by decide) (H lv' ex' hg' qd' h1 h2)⟩
theorem fs_sp_q {post : St2 → Prop} {pr so si ed fl qf qs oc : Int32} {fr tp ro et lf fe ne lv cu cb ex hg qu qd pa gn nd tr og : Nat → Int32} {s e v w : Nat} (hs : s < 16) (hso : so = nI s) (he : e < 56) (hv : v < 16) (hvs : v ≠ s) (hn : fe s = nI e) (hne : ne e = -1) (het : et e = nI v) (hl : lf e = nI w) (hw : w ≤ 99) (hq : w = 0 ∨ nI v = si)
    (H : ∀ (lv' ex' hg' qd' : Nat → Int32), (∀ j, j < 16 → j ≠ s → j ≠ v → ex' j = 0) → ex' v = nI w → (∀ j, j < 16 → lv' j = nI (fs_l0v s j)) → post (pr, so, si, ed, fl, nI 0, nI 0, oc, fr, tp, ro, et, fs_mv lf e (nI w), fe, ne, lv', cu, cb, ex', hg', qu, qd', pa, gn, nd, tr, og)) : wpX_startPushing post (pr, so, si, ed, fl, qf, qs, oc, fr, tp, ro, et, lf, fe, ne, lv, cu, cb, ex, hg, qu, qd, pa, gn, nd, tr, og) := by
  refine fs_sp hs hso (fun lv' ex' hg' qd' h1 h2 h3 => ?_)
  rw [hn]
  have ce : (nI e).toNatClampNeg = e := nI_clamp (by omega)
  have ie : vp_in (nI e) 56 := pk_in e 56 he
  refine ⟨2, br_f (nI_pos (by omega)) ⟨ie, ?_⟩⟩
  rw [ce, hl]
  refine fs_push_q hs he hv hso rfl het (hq.imp (fun z => by rw [z]; decide) Or.inr) ⟨ie, nm_r hne (br_t (by decide) ?_)⟩
  exact H _ _ _ _ (fun j hj a b => by rw [fs_xsj a b]; exact h1 j hj) (fs_xsv hvs (h1 v hv)) h2
theorem fs_sp_e {post : St2 → Prop} {pr so si ed fl qf qs oc : Int32} {fr tp ro et lf fe ne lv cu cb ex hg qu qd pa gn nd tr og : Nat → Int32} {s e v w : Nat} (hs : s < 16) (hso : so = nI s) (he : e < 56) (hv : v < 16) (hvs : v ≠ s) (hn : fe s = nI e) (hne : ne e = -1) (het : et e = nI v) (hl : lf e = nI w) (hw : w ≤ 99) (hw0 : 0 < w) (ht : ¬ nI v = si)
    (H : ∀ (lv' ex' hg' qu' qd' : Nat → Int32), (∀ j, j < 16 → j ≠ s → j ≠ v → ex' j = 0) → ex' v = nI w → (∀ j, j < 16 → lv' j = nI (fs_l0v s j)) → qu' 0 = nI v → post (pr, so, si, ed, fl, nI 0, nI 1, oc, fr, tp, ro, et, fs_mv lf e (nI w), fe, ne, lv', cu, cb, ex', hg', qu', qd', pa, gn, nd, tr, og)) : wpX_startPushing post (pr, so, si, ed, fl, qf, qs, oc, fr, tp, ro, et, lf, fe, ne, lv, cu, cb, ex, hg, qu, qd, pa, gn, nd, tr, og) := by
  refine fs_sp hs hso (fun lv' ex' hg' qd' h1 h2 h3 => ?_)
  rw [hn]
  have ce : (nI e).toNatClampNeg = e := nI_clamp (by omega)
  have ie : vp_in (nI e) 56 := pk_in e 56 he
  refine ⟨2, br_f (nI_pos (by omega)) ⟨ie, ?_⟩⟩
  rw [ce, hl]
  refine fs_push_e (i := 0) (k := 0) hs he hv hso rfl het (nI_nle hw0 (by omega)) (by rw [hso, nI_eq (by omega) (by omega)]; exact hvs) ht rfl rfl (by omega) (h3 v hv) ⟨ie, nm_r hne (br_t (by decide) ?_)⟩
  exact H _ _ _ _ _ (fun j hj a b => by rw [fs_xsj a b]; exact h1 j hj) (fs_xsv hvs (h1 v hv)) h2 pk_us
theorem fs_e2_end {post : St2 → Prop} {pr so si ed fl qf qs oc : Int32} {fr tp ro et lf fe ne lv cu cb ex hg qu qd pa gn nd tr og : Nat → Int32} {t n : Nat} {f x1 : Int32} (ht : t < 16) (hsi : si = nI t) (hq : qs = nI 0) (hf : ex t = f) (hx : ¬ 100000 ≤ x1)
    (H : post (pr, so, si, ed, f, qf, qs, oc, fr, tp, ro, et, lf, fe, ne, lv, cu, cb, ex, hg, qu, qd, pa, gn, nd, tr, og)) : wX_solveByPushingInTurn_6 post (n + 1) x1 pr so si ed fl qf qs oc fr tp ro et lf fe ne lv cu cb ex hg qu qd pa gn nd tr og := by
  subst hsi hq
  exact br_f hx (br_t (by decide) ⟨pk_in t 16 ht, nm_r (show ex (nI t).toNatClampNeg = f by rw [nI_clamp (by omega)]; exact hf) H⟩)
theorem fs_e2_none {post : St2 → Prop} {pr so si ed fl qf qs oc : Int32} {fr tp ro et lf fe ne lv cu cb ex hg qu qd pa gn nd tr og : Nat → Int32} {s t : Nat} (hs : s < 16) (ht : t < 16) (hso : so = nI s) (hsi : si = nI t) (hn : fe s = -1)
    (H : fs_R post pr so si ed fr tp ro et fe ne (fun f l => f = 0 ∧ l = lf)) : wpX_solveByPushingInTurn post (pr, so, si, ed, fl, qf, qs, oc, fr, tp, ro, et, lf, fe, ne, lv, cu, cb, ex, hg, qu, qd, pa, gn, nd, tr, og) := by
  unfold wpX_solveByPushingInTurn
  exact fs_sp_none hs hso hn (fun _ _ _ _ h1 h2 => ⟨1, fs_e2_end ht hsi rfl (h1 t ht) (by decide) (H _ _ _ _ _ _ _ _ _ _ _ _ _ _ _ _ _ ⟨rfl, rfl⟩)⟩)
/-- the source's edge goes to the sink, or has no room -/
theorem fs_e2_q {post : St2 → Prop} {pr so si ed fl qf qs oc : Int32} {fr tp ro et lf fe ne lv cu cb ex hg qu qd pa gn nd tr og : Nat → Int32} {s t e v w : Nat} (hs : s < 16) (ht : t < 16) (hst : s ≠ t) (hso : so = nI s) (hsi : si = nI t) (he : e < 56) (hv : v < 16) (hvs : v ≠ s) (hn : fe s = nI e) (hne : ne e = -1) (het : et e = nI v) (hl : lf e = nI w) (hw : w ≤ 99) (hq : w = 0 ∨ v = t)
    (H : fs_R post pr so si ed fr tp ro et fe ne (fun f l => f = nI w ∧ l = fs_mv lf e (nI w))) : wpX_solveByPushingInTurn post (pr, so, si, ed, fl, qf, qs, oc, fr, tp, ro, et, lf, fe, ne, lv, cu, cb, ex, hg, qu, qd, pa, gn, nd, tr, og) := by
  unfold wpX_solveByPushingInTurn
  refine fs_sp_q hs hso he hv hvs hn hne het hl hw (hq.imp id (fun z => by rw [z, hsi])) (fun _ ex' _ _ h1 h2 h3 => ⟨1, fs_e2_end ht hsi rfl ?_ (by decide) (H _ _ _ _ _ _ _ _ _ _ _ _ _ _ _ _ _ ⟨rfl, rfl⟩)⟩)
  by_cases z : v = t
  · rw [← z]; exact h2
  · rw [h1 t ht (Ne.symm hst) (Ne.symm z), hq.resolve_right z]; rfl
theorem fs_dis_skip {post : St2 → Prop} {pr so si ed fl qf qs oc : Int32} {fr tp ro et lf fe ne lv cu cb ex hg qu qd pa gn nd tr og : Nat → Int32} {u e v : Nat} (hu : u < 16) (he : e < 56) (hv : v < 16) (hn : fe u = nI e) (hne : ne e = -1) (het : et e = nI v) (hx : ¬ ex u ≤ 0) (hc : ¬ lv u = lv v + 1)
    (H : post (pr, so, si, ed, fl, qf, qs, oc, fr, tp, ro, et, lf, fe, ne, lv, cu, cb, ex, hg, qu, qd, pa, gn, nd, tr, og)) : wpX_discharge post (pr, so, si, ed, fl, qf, qs, oc, fr, tp, ro, et, lf, fe, ne, lv, cu, cb, ex, hg, qu, qd, pa, gn, nd, tr, og) (nI u) := by
  unfold wpX_discharge
  have ce : (nI e).toNatClampNeg = e := nI_clamp (by omega)
  have cv : (nI v).toNatClampNeg = v := nI_clamp (by omega)
  have cu' : (nI u).toNatClampNeg = u := nI_clamp (by omega)
  have ie : vp_in (nI e) 56 := pk_in e 56 he
  have iu : vp_in (nI u) 16 := pk_in u 16 hu
  have iv : vp_in (nI v) 16 := pk_in v 16 hv
  refine ⟨iu, nm_r (show fe (nI u).toNatClampNeg = nI e by rw [cu']; exact hn) ⟨2, br_f (nI_pos (by omega)) ⟨iu, br_f (by rw [cu']; exact hx) ⟨ie, nm_r (show et (nI e).toNatClampNeg = nI v by rw [ce]; exact het) ⟨ie, ?_⟩⟩⟩⟩⟩
  have n1 : ne (nI e).toNatClampNeg = -1 := by rw [ce]; exact hne
  exact br_c (fun _ => ⟨ie, nm_r n1 (br_t (by decide) H)⟩) (fun _ => ⟨iu, iv, br_f (by rw [cu', cv]; exact hc) ⟨ie, nm_r n1 (br_t (by decide) H)⟩⟩)
theorem fs_dis_push {post : St2 → Prop} {pr so si ed fl qf qs oc : Int32} {fr tp ro et lf fe ne lv cu cb ex hg qu qd pa gn nd tr og : Nat → Int32} {u e v : Nat} (hu : u < 16) (he : e < 56) (hv : v < 16) (hn : fe u = nI e) (hne : ne e = -1) (het : et e = nI v) (hx : ¬ ex u ≤ 0) (hl : ¬ lf e ≤ 0) (hc : lv u = lv v + 1) (hxl : ex u ≤ lf e) (hso : nI v = so)
    (H : post (pr, so, si, ed, fl, qf, qs, oc, fr, tp, ro, et, fs_mv lf e (ex u), fe, ne, lv, cu, cb, fs_xs ex u v (ex u), hg, qu, qd, pa, gn, nd, tr, og)) : wpX_discharge post (pr, so, si, ed, fl, qf, qs, oc, fr, tp, ro, et, lf, fe, ne, lv, cu, cb, ex, hg, qu, qd, pa, gn, nd, tr, og) (nI u) := by
  unfold wpX_discharge
  have ce : (nI e).toNatClampNeg = e := nI_clamp (by omega)
  have cv : (nI v).toNatClampNeg = v := nI_clamp (by omega)
  have cu' : (nI u).toNatClampNeg = u := nI_clamp (by omega)
  have ie : vp_in (nI e) 56 := pk_in e 56 he
  have iu : vp_in (nI u) 16 := pk_in u 16 hu
  have iv : vp_in (nI v) 16 := pk_in v 16 hv
  have n1 : ne (nI e).toNatClampNeg = -1 := by rw [ce]; exact hne
  refine ⟨iu, nm_r (show fe (nI u).toNatClampNeg = nI e by rw [cu']; exact hn) ⟨2, br_f (nI_pos (by omega)) ⟨iu, br_f (by rw [cu']; exact hx) ⟨ie, nm_r (show et (nI e).toNatClampNeg = nI v by rw [ce]; exact het) ⟨ie, ?_⟩⟩⟩⟩⟩
  refine br_f (by rw [ce]; exact hl) ⟨iu, iv, br_t (by rw [cu', cv]; exact hc) ⟨ie, iu, br_t (by rw [cu', ce]; exact hxl) ⟨iu, ?_⟩⟩⟩
  rw [cu']
  exact fs_push_q hu he hv rfl rfl het (Or.inr (Or.inl hso)) ⟨ie, nm_r n1 (br_t (by decide) H)⟩
theorem fs_raise1 {post : St2 → Prop} {pr so si ed fl qf qs oc : Int32} {fr tp ro et lf fe ne lv cu cb ex hg qu qd pa gn nd tr og : Nat → Int32} {u e v k l : Nat} (hu : u < 16) (he : e < 56) (hv : v < 16) (hn : fe u = nI e) (hne : ne e = -1) (het : et e = nI v) (hl : ¬ lf e ≤ 0) (hk : lv u = nI k) (hk2 : k < 64) (hl2 : lv v = nI l) (hl3 : l < 32)
    (H : ∀ (hg' : Nat → Int32), post (pr, so, si, ed, fl, qf, qs, oc, fr, tp, ro, et, lf, fe, ne, upd lv u (nI (l + 1)), cu, cb, ex, hg', qu, qd, pa, gn, nd, tr, og)) : wpX_raise post (pr, so, si, ed, fl, qf, qs, oc, fr, tp, ro, et, lf, fe, ne, lv, cu, cb, ex, hg, qu, qd, pa, gn, nd, tr, og) (nI u) := by
  unfold wpX_raise
  have ce : (nI e).toNatClampNeg = e := nI_clamp (by omega)
  have cv : (nI v).toNatClampNeg = v := nI_clamp (by omega)
  have cu' : (nI u).toNatClampNeg = u := nI_clamp (by omega)
  have ie : vp_in (nI e) 56 := pk_in e 56 he
  have iu : vp_in (nI u) 16 := pk_in u 16 hu
  have iv : vp_in (nI v) 16 := pk_in v 16 hv
  have n1 : ne (nI e).toNatClampNeg = -1 := by rw [ce]; exact hne
  have v1 : vp_in (lv (nI u).toNatClampNeg) 64 := by rw [cu', hk]; exact pk_in k 64 hk2
  have v2 : vp_in (upd lv u (nI (l + 1)) (nI u).toNatClampNeg) 64 := by rw [cu', pk_us]; exact pk_in (l + 1) 64 (by omega)
  refine ⟨iu, nm_r (show fe (nI u).toNatClampNeg = nI e by rw [cu']; exact hn) ⟨2, br_f (nI_pos (by omega)) ⟨ie, nm_r (show et (nI e).toNatClampNeg = nI v by rw [ce]; exact het) ⟨ie, br_f (by rw [ce]; exact hl) ⟨iv, br_f (by rw [cv, hl2]; exact nI_ge (b := 32) hl3 (by omega)) ⟨iv, nm_r (show lv (nI v).toNatClampNeg = nI l by rw [cv]; exact hl2) ⟨ie, nm_r n1 (br_t (by decide) ?_)⟩⟩⟩⟩⟩⟩⟩
  exact ⟨iu, v1, v1, nm_e ⟨iu, nm_r (show upd lv (nI u).toNatClampNeg (nI l + 1) = upd lv u (nI (l + 1)) by rw [cu', nI_1]) ⟨iu, v2, v2, nm_e (H _)⟩⟩⟩
/-- the source's edge goes to b, which is not the sink and gives all back -/
theorem fs_e2_e {post : St2 → Prop} {pr so si ed fl qf qs oc : Int32} {fr tp ro et lf fe ne lv cu cb ex hg qu qd pa gn nd tr og : Nat → Int32} {s t b w : Nat} (hs : s < 16) (ht : t < 16) (hst : s ≠ t) (hso : so = nI s) (hsi : si = nI t) (hb : b < 16) (hbs : b ≠ s) (hbt : b ≠ t) (h1 : fe s = nI 0) (h2 : ne 0 = -1) (h3 : et 0 = nI b) (h4 : fe b = nI 1) (h5 : ne 1 = -1) (h6 : et 1 = nI s) (h7 : lf 0 = nI w) (h8 : lf 1 = 0) (hw : w ≤ 99) (hw0 : 0 < w)
    (H : fs_R post pr so si ed fr tp ro et fe ne (fun f l => f = 0 ∧ l 0 = nI w ∧ l 1 = 0)) : wpX_solveByPushingInTurn post (pr, so, si, ed, fl, qf, qs, oc, fr, tp, ro, et, lf, fe, ne, lv, cu, cb, ex, hg, qu, qd, pa, gn, nd, tr, og) := by
  unfold wpX_solveByPushingInTurn
  have cb' : (nI b).toNatClampNeg = b := nI_clamp (by omega)
  have ib : vp_in (nI b) 16 := pk_in b 16 hb
  have w0 : ¬ nI w ≤ 0 := nI_nle hw0 (by omega)
  refine fs_sp_e (e := 0) hs hso (by omega) hb hbs h1 h2 h3 h7 hw hw0 (by rw [hsi, nI_eq (by omega) (by omega)]; exact hbt) (fun lv' ex' hg' qu' qd' x1 x2 x3 q1 => ?_)
  have m0 := fs_mv00 h7
  have m1 := fs_mv01 (w := w) h8
  have lb : lv' b = nI 0 := by rw [x3 b hb]; unfold fs_l0v; rw [if_neg hbs]
  have ls : lv' s = nI 16 := by rw [x3 s hs]; unfold fs_l0v; rw [if_pos rfl]
  have xb : ¬ ex' b ≤ 0 := by rw [x2]; exact w0
  refine ⟨3, br_f (by decide) (br_f (by decide) (fs_deq (i := 0) (k := 0) hb rfl rfl (by omega) q1 ?_))⟩
  refine fs_dis_skip (e := 1) hb (by omega) hs h4 h5 h6 xb (by rw [lb, ls]; decide) ⟨ib, br_f (by rw [cb']; exact xb) ?_⟩
  refine fs_raise1 (e := 1) (v := s) (k := 0) (l := 16) hb (by omega) hs h4 h5 h6 (by rw [m1]; exact w0) lb (by omega) ls (by omega) (fun hg2 => ?_)
  refine fs_enq (i := 1) (k := 0) hb rfl rfl rfl (by omega) pk_us (nm_r (nI_1 0) ?_)
  refine br_f (by decide) (br_f (by decide) (fs_deq (i := 1) (k := 0) hb rfl rfl (by omega) pk_us ?_))
  refine fs_dis_push (e := 1) hb (by omega) hs h4 h5 h6 xb (by rw [m1]; exact w0) (by rw [pk_us, pk_un (Ne.symm hbs), ls]; decide) (by rw [x2, m1]; exact nI_le (Nat.le_refl _) (by omega)) hso.symm ?_
  rw [x2]
  refine ⟨ib, br_t (by rw [cb', fs_xsu (Ne.symm hbs) x2]; decide) (nm_r (nI_1 1) ?_)⟩
  exact fs_e2_end (f := 0) ht hsi rfl (by rw [fs_xsj (Ne.symm hbt) (Ne.symm hst)]; exact x1 t ht (Ne.symm hst) (Ne.symm hbt)) (by decide) (H _ _ _ _ _ _ _ _ _ _ _ _ _ _ _ _ _ ⟨rfl, fs_mv10 m0, fs_mv11 m1⟩)
end
section
/-! engine 3: any network whose lists end; the levels stay small; nothing comes to the sink -/
def fs_lvs (lv : Nat → Int32) : Prop := ∀ j, j < 16 → ∃ k, k ≤ 33 ∧ lv j = nI k
theorem fs_lvs_upd {lv : Nat → Int32} {u k : Nat} (h : fs_lvs lv) (hk : k ≤ 33) : fs_lvs (upd lv u (nI k)) := by
  intro j hj
  by_cases z : j = u
  · exact ⟨k, hk, by rw [z, pk_us]⟩
  · rw [pk_un z]; exact h j hj
/-- a place in a list of edges -/
def fs_at (m : Nat) (x : Int32) (n : Nat) : Prop := (x = -1 ∧ 0 < n) ∨ ∃ e, e < m ∧ x = nI e ∧ e + 1 < n
theorem fs_at_fe {m : Nat} {et fe ne : Nat → Int32} (h : fs_WF m et fe ne) {u : Nat} (hu : u < 16) : fs_at m (fe u) 58 := by
  obtain ⟨h0, _, _, h3⟩ := h
  rcases h3 u hu with z | ⟨e, he, z⟩
  · exact Or.inl ⟨z, by omega⟩
  · exact Or.inr ⟨e, he, z, by omega⟩
theorem fs_at_ne {m e n : Nat} {et fe ne : Nat → Int32} (h : fs_WF m et fe ne) (he : e < m) (hn : e + 1 < n + 1) : fs_at m (ne e) n := by
  obtain ⟨h0, _, h2, _⟩ := h
  rcases h2 e he with z | ⟨e', he', z⟩
  · exact Or.inl ⟨z, by omega⟩
  · exact Or.inr ⟨e', by omega, z, by omega⟩
theorem fs_dis7 {post : St2 → Prop} {pr so si ed fl qf oc : Int32} {fr tp ro et fe ne lv cu cb hg pa gn nd tr og : Nat → Int32} {u t m : Nat} {xt : Int32} (hu : u < 16) (hut : t ≠ u) (hW : fs_WF m et fe ne) (hT : ∀ e, e < m → ¬ et e = nI t)
    (H : ∀ (qs' : Int32) (lf' ex' qu' qd' : Nat → Int32), ex' t = xt → post (pr, so, si, ed, fl, qf, qs', oc, fr, tp, ro, et, lf', fe, ne, lv, cu, cb, ex', hg, qu', qd', pa, gn, nd, tr, og)) :
    ∀ (n : Nat) (x2 qs : Int32) (lf ex qu qd : Nat → Int32), fs_at m x2 n → ex t = xt → wX_discharge_7 post (nI u) n x2 pr so si ed fl qf qs oc fr tp ro et lf fe ne lv cu cb ex hg qu qd pa gn nd tr og := by
  intro n
  induction n with
  | zero =>
    intro x2 qs lf ex qu qd ha _
    rcases ha with ⟨_, z⟩ | ⟨e, _, _, z⟩
    · exact absurd z (by omega)
    · exact absurd z (by omega)
  | succ n ih =>
    intro x2 qs lf ex qu qd ha hx
    rcases ha with ⟨rfl, z⟩ | ⟨e, he, rfl, z⟩
    · exact br_t (by decide) (H _ _ _ _ _ hx)
    · obtain ⟨v, hv, het⟩ := hW.2.1 e he
      have he56 : e < 56 := Nat.lt_of_lt_of_le he hW.1
      have hvt : t ≠ v := fun y => hT e he (by rw [het, y])
      have nxt := fs_at_ne hW he z
      have ce : (nI e).toNatClampNeg = e := nI_clamp (by omega)
      have ie : vp_in (nI e) 56 := pk_in e 56 he56
      have iu : vp_in (nI u) 16 := pk_in u 16 hu
      have iv : vp_in (nI v) 16 := pk_in v 16 hv
      have n1 : ne (nI e).toNatClampNeg = ne e := by rw [ce]
      have go : ∀ y : Int32, wX_discharge_83 post (wX_discharge_7 post (nI u) n) (nI u) (nI e) y pr so si ed fl qf qs oc fr tp ro et lf fe ne lv cu cb ex hg qu qd pa gn nd tr og := by
        intro y
        exact fs_push_any hu he56 hv rfl rfl het (fun qs' qu' qd' => ⟨ie, nm_r n1 (ih _ _ _ _ _ _ nxt (by rw [fs_xsj hut hvt]; exact hx))⟩)
      refine br_f (nI_pos (by omega)) ⟨iu, br_c (fun _ => H _ _ _ _ _ hx) (fun _ => ⟨ie, nm_r (show et (nI e).toNatClampNeg = nI v by rw [ce]; exact het) ⟨ie, br_c (fun _ => ⟨ie, nm_r n1 (ih _ _ _ _ _ _ nxt hx)⟩) (fun _ => ⟨iu, iv, br_c (fun _ => ⟨ie, iu, br_c (fun _ => ⟨iu, go _⟩) (fun _ => ⟨ie, go _⟩)⟩) (fun _ => ⟨ie, nm_r n1 (ih _ _ _ _ _ _ nxt hx)⟩)⟩)⟩⟩)⟩
theorem fs_dis_g {post : St2 → Prop} {pr so si ed fl qf qs oc : Int32} {fr tp ro et lf fe ne lv cu cb ex hg qu qd pa gn nd tr og : Nat → Int32} {u t m : Nat} (hu : u < 16) (hut : t ≠ u) (hW : fs_WF m et fe ne) (hT : ∀ e, e < m → ¬ et e = nI t)
    (H : ∀ (qs' : Int32) (lf' ex' qu' qd' : Nat → Int32), ex' t = ex t → post (pr, so, si, ed, fl, qf, qs', oc, fr, tp, ro, et, lf', fe, ne, lv, cu, cb, ex', hg, qu', qd', pa, gn, nd, tr, og)) : wpX_discharge post (pr, so, si, ed, fl, qf, qs, oc, fr, tp, ro, et, lf, fe, ne, lv, cu, cb, ex, hg, qu, qd, pa, gn, nd, tr, og) (nI u) := by
  unfold wpX_discharge
  exact ⟨pk_in u 16 hu, nm_r (show fe (nI u).toNatClampNeg = fe u by rw [nI_clamp (by omega)]) ⟨58, fs_dis7 hu hut hW hT H 58 _ _ _ _ _ _ (fs_at_fe hW hu) rfl⟩⟩
theorem fs_raise10 {post : St2 → Prop} {pr so si ed fl qf qs oc : Int32} {fr tp ro et lf fe ne lv cu cb ex hg qu qd pa gn nd tr og : Nat → Int32} {u m : Nat} (hu : u < 16) (hW : fs_WF m et fe ne) (hL : fs_lvs lv)
    (H : ∀ (lv' hg' : Nat → Int32), fs_lvs lv' → post (pr, so, si, ed, fl, qf, qs, oc, fr, tp, ro, et, lf, fe, ne, lv', cu, cb, ex, hg', qu, qd, pa, gn, nd, tr, og)) :
    ∀ (n : Nat) (x3 : Int32) (k : Nat), k ≤ 32 → fs_at m x3 n → wX_raise_10 post (nI u) pr so si ed fl qf qs oc fr tp ro et lf fe ne lv cu cb ex hg qu qd pa gn nd tr og n (nI k) x3 := by
  intro n
  have cu' : (nI u).toNatClampNeg = u := nI_clamp (by omega)
  have iu : vp_in (nI u) 16 := pk_in u 16 hu
  induction n with
  | zero =>
    intro x3 k hk ha
    rcases ha with ⟨_, z⟩ | ⟨e, _, _, z⟩
    · exact absurd z (by omega)
    · exact absurd z (by omega)
  | succ n ih =>
    intro x3 k hk ha
    rcases ha with ⟨rfl, z⟩ | ⟨e, he, rfl, z⟩
    · obtain ⟨q, hq, eq⟩ := hL u hu
      have v1 : vp_in (lv (nI u).toNatClampNeg) 64 := by rw [cu', eq]; exact pk_in q 64 (by omega)
      have v2 : vp_in (upd lv u (nI (k + 1)) (nI u).toNatClampNeg) 64 := by rw [cu', pk_us]; exact pk_in (k + 1) 64 (by omega)
      exact br_t (by decide) ⟨iu, v1, v1, nm_e ⟨iu, nm_r (show upd lv (nI u).toNatClampNeg (nI k + 1) = upd lv u (nI (k + 1)) by rw [cu', nI_1]) ⟨iu, v2, v2, nm_e (H _ _ (fs_lvs_upd hL (by omega)))⟩⟩⟩
    · obtain ⟨v, hv, het⟩ := hW.2.1 e he
      have he56 : e < 56 := Nat.lt_of_lt_of_le he hW.1
      have nxt := fs_at_ne hW he z
      have ce : (nI e).toNatClampNeg = e := nI_clamp (by omega)
      have cv : (nI v).toNatClampNeg = v := nI_clamp (by omega)
      have ie : vp_in (nI e) 56 := pk_in e 56 he56
      have iv : vp_in (nI v) 16 := pk_in v 16 hv
      have n1 : ne (nI e).toNatClampNeg = ne e := by rw [ce]
      obtain ⟨q, hq, eq⟩ := hL v hv
      have eq' : lv (nI v).toNatClampNeg = nI q := by rw [cv]; exact eq
      refine br_f (nI_pos (by omega)) ⟨ie, nm_r (show et (nI e).toNatClampNeg = nI v by rw [ce]; exact het) ⟨ie, br_c (fun _ => ⟨ie, nm_r n1 (ih _ k hk nxt)⟩) (fun _ => ⟨iv, pk_le k q (fun _ => ⟨ie, nm_r n1 (ih _ k hk nxt)⟩) (fun y => ⟨iv, nm_r eq' ⟨ie, nm_r n1 (ih _ q (by omega) nxt)⟩⟩) rfl eq'⟩)⟩⟩
theorem fs_raise_g {post : St2 → Prop} {pr so si ed fl qf qs oc : Int32} {fr tp ro et lf fe ne lv cu cb ex hg qu qd pa gn nd tr og : Nat → Int32} {u m : Nat} (hu : u < 16) (hW : fs_WF m et fe ne) (hL : fs_lvs lv)
    (H : ∀ (lv' hg' : Nat → Int32), fs_lvs lv' → post (pr, so, si, ed, fl, qf, qs, oc, fr, tp, ro, et, lf, fe, ne, lv', cu, cb, ex, hg', qu, qd, pa, gn, nd, tr, og)) : wpX_raise post (pr, so, si, ed, fl, qf, qs, oc, fr, tp, ro, et, lf, fe, ne, lv, cu, cb, ex, hg, qu, qd, pa, gn, nd, tr, og) (nI u) := by
  unfold wpX_raise
  exact ⟨pk_in u 16 hu, nm_r (show fe (nI u).toNatClampNeg = fe u by rw [nI_clamp (by omega)]) ⟨58, fs_raise10 hu hW hL H 58 _ 32 (by omega) (fs_at_fe hW hu)⟩⟩
theorem fs_gap_g {post : St2 → Prop} {pr so si ed fl qf qs oc : Int32} {fr tp ro et lf fe ne lv cu cb ex hg qu qd pa gn nd tr og : Nat → Int32} {x : Int32} (hL : fs_lvs lv)
    (H : ∀ (lv' hg' : Nat → Int32), fs_lvs lv' → post (pr, so, si, ed, fl, qf, qs, oc, fr, tp, ro, et, lf, fe, ne, lv', cu, cb, ex, hg', qu, qd, pa, gn, nd, tr, og)) : wpX_closeGap post (pr, so, si, ed, fl, qf, qs, oc, fr, tp, ro, et, lf, fe, ne, lv, cu, cb, ex, hg, qu, qd, pa, gn, nd, tr, og) x := by
  unfold wpX_closeGap
  refine pk_loop (fun n i (z : (Nat → Int32) × (Nat → Int32)) => wX_closeGap_2 post x pr so si ed fl qf qs oc n (nI i) fr tp ro et lf fe ne z.1 cu cb ex z.2 qu qd pa gn nd tr og) (fun _ z => fs_lvs z.1) 16 0 (lv, hg) (by omega) hL ?_ ?_
  · rintro n ⟨lv', hg'⟩ h
    exact pk_le 16 16 (fun _ => H lv' hg' h) (fun z => absurd z (by omega))
  · rintro n i ⟨lv', hg'⟩ hi h hw
    have ci : (nI i).toNatClampNeg = i := nI_clamp (by omega)
    have ii : vp_in (nI i) 16 := pk_in i 16 hi
    have h : fs_lvs lv' := h
    obtain ⟨q, hq, eq⟩ := h i hi
    have v1 : vp_in (lv' (nI i).toNatClampNeg) 64 := by rw [ci, eq]; exact pk_in q 64 (by omega)
    have v2 : vp_in (upd lv' i (nI 17) (nI i).toNatClampNeg) 64 := by rw [ci, pk_us]; exact pk_in 17 64 (by omega)
    have same : ∀ y : Int32, y = nI i + 1 → wX_closeGap_2 post x pr so si ed fl qf qs oc n y fr tp ro et lf fe ne lv' cu cb ex hg' qu qd pa gn nd tr og := nm_r (nI_1 i) (hw (lv', hg') h)
    refine pk_le 16 i (fun z => absurd z (by omega)) (fun _ => br_c (fun _ => same) (fun _ => ⟨ii, br_c (fun _ => same) (fun _ => ⟨ii, br_c (fun _ => same) (fun _ => ⟨ii, v1, v1, nm_e ⟨ii, nm_r (show upd lv' (nI i).toNatClampNeg 17 = upd lv' i (nI 17) by rw [ci]; rfl) ⟨ii, v2, v2, nm_e (nm_r (nI_1 i) (hw (_, _) (fs_lvs_upd h (by omega))))⟩⟩⟩)⟩)⟩))
theorem fs_highest {post : Int32 → Prop} {pr so si ed fl qf qs oc : Int32} {fr tp ro et lf fe ne lv cu cb ex hg qu qd pa gn nd tr og : Nat → Int32} {s t : Nat} (hs : s < 16) (ht : t < 16) (hso : so = nI s) (hsi : si = nI t)
    (H : ∀ r : Int32, (r = -1 ∨ ∃ u, u < 16 ∧ u ≠ s ∧ u ≠ t ∧ ¬ ex u ≤ 0 ∧ r = nI u) → post r) : wpX_highest post (pr, so, si, ed, fl, qf, qs, oc, fr, tp, ro, et, lf, fe, ne, lv, cu, cb, ex, hg, qu, qd, pa, gn, nd, tr, og) := by
  subst hso hsi
  unfold wpX_highest
  refine pk_loop (fun n i (z : Int32) => wX_highest_4 post pr (nI s) (nI t) ed fl qf qs oc fr tp ro et lf fe ne lv cu cb ex hg qu qd pa gn nd tr og n z (nI i)) (fun _ z => z = -1 ∨ ∃ u, u < 16 ∧ u ≠ s ∧ u ≠ t ∧ ¬ ex u ≤ 0 ∧ z = nI u) 16 0 (-1) (by omega) (Or.inl rfl) ?_ ?_
  · intro n z h
    exact pk_le 16 16 (fun _ => H z h) (fun z => absurd z (by omega))
  · intro n i z hi h hw
    have ci : (nI i).toNatClampNeg = i := nI_clamp (by omega)
    have ii : vp_in (nI i) 16 := pk_in i 16 hi
    have same : wX_highest_39 post (wX_highest_4 post pr (nI s) (nI t) ed fl qf qs oc fr tp ro et lf fe ne lv cu cb ex hg qu qd pa gn nd tr og n) z (nI i) pr (nI s) (nI t) ed fl qf qs oc fr tp ro et lf fe ne lv cu cb ex hg qu qd pa gn nd tr og := br_t rfl (nm_r (nI_1 i) (hw z h))
    refine pk_le 16 i (fun z => absurd z (by omega)) (fun _ => pk_eq i s (fun _ => same) (fun a1 => pk_eq i t (fun _ => same) (fun a2 => ⟨ii, br_c (fun _ => same) (fun a3 => br_f (by decide) ?_)⟩)))
    have new : ∃ u, u < 16 ∧ u ≠ s ∧ u ≠ t ∧ ¬ ex u ≤ 0 ∧ nI i = nI u := ⟨i, hi, a1, a2, by rw [ci] at a3; exact a3, rfl⟩
    rcases h with rfl | ⟨u, hu, u1, u2, u3, rfl⟩
    · exact br_t (by decide) (nm_r (nI_1 i) (hw _ (Or.inr new)))
    · exact br_f (nI_pos (by omega)) ⟨ii, pk_in u 16 hu, br_c (fun _ => nm_r (nI_1 i) (hw _ (Or.inr ⟨u, hu, u1, u2, u3, rfl⟩))) (fun _ => nm_r (nI_1 i) (hw _ (Or.inr new)))⟩
theorem fs_e3_end {post : St2 → Prop} {pr so si ed fl qf qs oc : Int32} {fr tp ro et lf fe ne lv cu cb ex hg qu qd pa gn nd tr og : Nat → Int32} {t : Nat} {f : Int32} (ht : t < 16) (hsi : si = nI t) (hf : ex t = f) (H : post (pr, so, si, ed, f, qf, qs, oc, fr, tp, ro, et, lf, fe, ne, lv, cu, cb, ex, hg, qu, qd, pa, gn, nd, tr, og)) : wX_solveByPushingHighest_78 post pr so si ed fl qf qs oc fr tp ro et lf fe ne lv cu cb ex hg qu qd pa gn nd tr og := by
  subst hsi
  exact ⟨pk_in t 16 ht, nm_r (show ex (nI t).toNatClampNeg = f by rw [nI_clamp (by omega)]; exact hf) H⟩
/-- nobody is active as pushing begins -/
theorem fs_e3_q {post : St2 → Prop} {pr so si ed fl qf qs oc : Int32} {fr tp ro et lf fe ne lv cu cb ex hg qu qd pa gn nd tr og : Nat → Int32} {s t : Nat} {f : Int32} (hs : s < 16) (ht : t < 16) (hso : so = nI s) (hsi : si = nI t) (hx : ∀ j, j < 16 → j ≠ s → j ≠ t → ex j = 0) (hf : ex t = f)
    (H : post (pr, so, si, ed, f, qf, qs, oc, fr, tp, ro, et, lf, fe, ne, lv, cu, cb, ex, hg, qu, qd, pa, gn, nd, tr, og)) : wpX_highest (fun r => ∃ n, wX_solveByPushingHighest_11 post n r 0 pr so si ed fl qf qs oc fr tp ro et lf fe ne lv cu cb ex hg qu qd pa gn nd tr og) (pr, so, si, ed, fl, qf, qs, oc, fr, tp, ro, et, lf, fe, ne, lv, cu, cb, ex, hg, qu, qd, pa, gn, nd, tr, og) := by
  refine fs_highest hs ht hso hsi (fun r hr => ?_)
  rcases hr with rfl | ⟨u, hu, u1, u2, u3, _⟩
  · exact ⟨1, br_f (by decide) (br_t (by decide) (fs_e3_end ht hsi hf H))⟩
  · exact absurd (by rw [hx u hu u1 u2]; decide) u3
def fs_act (s t : Nat) (z : Int32) : Prop := z = -1 ∨ ∃ u, u < 16 ∧ u ≠ s ∧ u ≠ t ∧ z = nI u
theorem fs_e3_loop {post : St2 → Prop} {pr so si ed fl qf qs oc : Int32} {fr tp ro et lf fe ne lv cu cb ex hg qu qd pa gn nd tr og : Nat → Int32} {s t m : Nat} {f z0 : Int32} (hs : s < 16) (ht : t < 16) (hso : so = nI s) (hsi : si = nI t) (hW : fs_WF m et fe ne) (hT : ∀ e, e < m → ¬ et e = nI t) (hL : fs_lvs lv) (hf : ex t = f) (hz : fs_act s t z0)
    (H : ∀ (qs' : Int32) (lf' lv' ex' hg' qu' qd' : Nat → Int32), post (pr, so, si, ed, f, qf, qs', oc, fr, tp, ro, et, lf', fe, ne, lv', cu, cb, ex', hg', qu', qd', pa, gn, nd, tr, og)) : ∃ n, wX_solveByPushingHighest_11 post n z0 0 pr so si ed fl qf qs oc fr tp ro et lf fe ne lv cu cb ex hg qu qd pa gn nd tr og := by
  refine pk_loop (fun n i (z : Int32 × Int32 × (Nat → Int32) × (Nat → Int32) × (Nat → Int32) × (Nat → Int32) × (Nat → Int32) × (Nat → Int32)) => wX_solveByPushingHighest_11 post n z.1 (nI i) pr so si ed fl qf z.2.1 oc fr tp ro et z.2.2.1 fe ne z.2.2.2.1 cu cb z.2.2.2.2.1 z.2.2.2.2.2.1 z.2.2.2.2.2.2.1 z.2.2.2.2.2.2.2 pa gn nd tr og)
    (fun _ z => fs_act s t z.1 ∧ fs_lvs z.2.2.2.1 ∧ z.2.2.2.2.1 t = f) 100000 0 (z0, qs, lf, lv, ex, hg, qu, qd) (by omega) ⟨hz, hL, hf⟩ ?_ ?_
  · rintro n ⟨z, qs', lf', lv', ex', hg', qu', qd'⟩ ⟨h1, h2, h3⟩
    exact pk_le 100000 100000 (fun _ => fs_e3_end ht hsi h3 (H _ _ _ _ _ _ _)) (fun z => absurd z (by omega))
  · rintro n i ⟨z, qs', lf', lv', ex', hg', qu', qd'⟩ hi ⟨h1, h2, h3⟩ hw
    refine pk_le 100000 i (fun z => absurd z (by omega)) (fun _ => ?_)
    have fin : ∀ (qs' : Int32) (lf' lv' ex' hg' qu' qd' : Nat → Int32), fs_lvs lv' → ex' t = f → wX_solveByPushingHighest_67 post (wX_solveByPushingHighest_11 post n) (nI i) pr so si ed fl qf qs' oc fr tp ro et lf' fe ne lv' cu cb ex' hg' qu' qd' pa gn nd tr og := by
      intro qs2 lf2 lv2 ex2 hg2 qu2 qd2 g1 g2
      refine fs_highest hs ht hso hsi (fun r hr => nm_r (nI_1 i) (hw (r, qs2, lf2, lv2, ex2, hg2, qu2, qd2) ⟨?_, g1, g2⟩))
      exact hr.imp id (fun ⟨u, a1, a2, a3, _, a4⟩ => ⟨u, a1, a2, a3, a4⟩)
    rcases h1 with rfl | ⟨u, hu, us, ut, rfl⟩
    · exact br_t (show (-1 : Int32) < 0 by decide) (fs_e3_end ht hsi h3 (H _ _ _ _ _ _ _))
    · have cu' : (nI u).toNatClampNeg = u := nI_clamp (by omega)
      have iu : vp_in (nI u) 16 := pk_in u 16 hu
      refine br_f (nI_pos (by omega)) (fs_dis_g hu (Ne.symm ut) hW hT (fun qs2 lf2 ex2 qu2 qd2 g => ⟨iu, br_c (fun _ => fin _ _ _ _ _ _ _ h2 (g.trans h3)) (fun _ => ⟨iu, ?_⟩)⟩))
      obtain ⟨q, hq, eq⟩ := h2 u hu
      refine nm_r (show lv' (nI u).toNatClampNeg = nI q by rw [cu']; exact eq) ?_
      refine fs_raise_g hu hW h2 (fun lv2 hg2 g3 => ⟨pk_in q 64 (by omega), br_c (fun _ => br_c (fun _ => fin _ _ _ _ _ _ _ g3 (g.trans h3)) (fun _ => fs_gap_g g3 (fun lv3 hg3 g4 => fin _ _ _ _ _ _ _ g4 (g.trans h3)))) (fun _ => fin _ _ _ _ _ _ _ g3 (g.trans h3))⟩)
theorem fs_lvs0 {s : Nat} {lv : Nat → Int32} (h : ∀ j, j < 16 → lv j = nI (fs_l0v s j)) : fs_lvs lv := by
  intro j hj
  refine ⟨fs_l0v s j, ?_, h j hj⟩
  unfold fs_l0v
  by_cases z : j = s
  · rw [if_pos z]; omega
  · rw [if_neg z]; omega
theorem fs_e3_none {post : St2 → Prop} {pr so si ed fl qf qs oc : Int32} {fr tp ro et lf fe ne lv cu cb ex hg qu qd pa gn nd tr og : Nat → Int32} {s t : Nat} (hs : s < 16) (ht : t < 16) (hso : so = nI s) (hsi : si = nI t) (hn : fe s = -1)
    (H : fs_R post pr so si ed fr tp ro et fe ne (fun f _ => f = 0)) : wpX_solveByPushingHighest post (pr, so, si, ed, fl, qf, qs, oc, fr, tp, ro, et, lf, fe, ne, lv, cu, cb, ex, hg, qu, qd, pa, gn, nd, tr, og) := by
  unfold wpX_solveByPushingHighest
  exact fs_sp_none hs hso hn (fun _ _ _ _ h1 h2 => fs_e3_q hs ht hso hsi (fun j hj _ _ => h1 j hj) (h1 t ht) (H _ _ _ _ _ _ _ _ _ _ _ _ _ _ _ _ _ rfl))
theorem fs_e3_quiet {post : St2 → Prop} {pr so si ed fl qf qs oc : Int32} {fr tp ro et lf fe ne lv cu cb ex hg qu qd pa gn nd tr og : Nat → Int32} {s t e v w : Nat} (hs : s < 16) (ht : t < 16) (hst : s ≠ t) (hso : so = nI s) (hsi : si = nI t) (he : e < 56) (hv : v < 16) (hvs : v ≠ s) (hn : fe s = nI e) (hne : ne e = -1) (het : et e = nI v) (hl : lf e = nI w) (hw : w ≤ 99) (hq : w = 0 ∨ v = t)
    (H : fs_R post pr so si ed fr tp ro et fe ne (fun f _ => f = nI w)) : wpX_solveByPushingHighest post (pr, so, si, ed, fl, qf, qs, oc, fr, tp, ro, et, lf, fe, ne, lv, cu, cb, ex, hg, qu, qd, pa, gn, nd, tr, og) := by
  unfold wpX_solveByPushingHighest
  refine fs_sp_q hs hso he hv hvs hn hne het hl hw (hq.imp id (fun z => by rw [z, hsi])) (fun _ ex' _ _ h1 h2 h3 => fs_e3_q (f := nI w) hs ht hso hsi (fun j hj a b => ?_) ?_ (H _ _ _ _ _ _ _ _ _ _ _ _ _ _ _ _ _ rfl))
  · by_cases z : j = v
    · rcases hq with y | y
      · rw [z, h2, y]; rfl
      · exact absurd (z.trans y) b
    · exact h1 j hj a z
  · by_cases z : v = t
    · rw [← z]; exact h2
    · rw [h1 t ht (Ne.symm hst) (Ne.symm z), hq.resolve_right z]; rfl
theorem fs_e3_back {post : St2 → Prop} {pr so si ed fl qf qs oc : Int32} {fr tp ro et lf fe ne lv cu cb ex hg qu qd pa gn nd tr og : Nat → Int32} {s t e v w m : Nat} (hs : s < 16) (ht : t < 16) (hst : s ≠ t) (hso : so = nI s) (hsi : si = nI t) (he : e < 56) (hv : v < 16) (hvs : v ≠ s) (hvt : v ≠ t) (hn : fe s = nI e) (hne : ne e = -1) (het : et e = nI v) (hl : lf e = nI w) (hw : w ≤ 99) (hw0 : 0 < w)
    (hW : fs_WF m et fe ne) (hT : ∀ e, e < m → ¬ et e = nI t)
    (H : fs_R post pr so si ed fr tp ro et fe ne (fun f _ => f = 0)) : wpX_solveByPushingHighest post (pr, so, si, ed, fl, qf, qs, oc, fr, tp, ro, et, lf, fe, ne, lv, cu, cb, ex, hg, qu, qd, pa, gn, nd, tr, og) := by
  unfold wpX_solveByPushingHighest
  refine fs_sp_e hs hso he hv hvs hn hne het hl hw hw0 (by rw [hsi, nI_eq (by omega) (by omega)]; exact hvt) (fun lv' ex' hg' qu' qd' x1 x2 x3 q1 => ?_)
  refine fs_highest hs ht hso hsi (fun r hr => ?_)
  exact fs_e3_loop (f := 0) hs ht hso hsi hW hT (fs_lvs0 x3) (x1 t ht (Ne.symm hst) (Ne.symm hvt)) (hr.imp id (fun ⟨u, a1, a2, a3, _, a4⟩ => ⟨u, a1, a2, a3, a4⟩)) (fun _ _ _ _ _ _ _ => H _ _ _ _ _ _ _ _ _ _ _ _ _ _ _ _ _ rfl)
end
section
/-! engine 5 -/
theorem fs_thr_f {post : Int32 → Prop} {pr so si ed fl qf qs oc : Int32} {fr tp ro et lf fe ne lv cu cb ex hg qu qd pa gn nd tr og : Nat → Int32} {s t w : Nat} (hs : s < 16) (ht : t < 16) (hn : fs_lv s t w et lf fe ne) (hw : w ≤ 99) (hw0 : 0 < w) (l1 : lv s = 0) (l2 : lv t = 1) (hgo : gn t = 0)
    (H : post (nI w)) : wpX_through post (pr, so, si, ed, fl, qf, qs, oc, fr, tp, ro, et, lf, fe, ne, lv, cu, cb, ex, hg, qu, qd, pa, gn, nd, tr, og) (nI s) 0 := by
  obtain ⟨h1, h2, h3, h4, h5, h6, h7, h8⟩ := hn
  unfold wpX_through
  have c0 : (nI 0).toNatClampNeg = 0 := nI_clamp (by omega)
  have i0 : vp_in (nI 0) 56 := pk_in 0 56 (by omega)
  refine ⟨pk_in s 16 hs, nm_r (show fe (nI s).toNatClampNeg = nI 0 by rw [nI_clamp (by omega)]; exact h1) ⟨2, br_f (by decide) ⟨i0, nm_r (show et (nI 0).toNatClampNeg = nI t by rw [c0]; exact h3) (br_t rfl ?_)⟩⟩⟩
  refine fs_leads hs (by omega) ht rfl rfl h3 (fun z => ?_) (fun _ _ => br_f (by decide) ⟨pk_in t 16 ht, br_t (by rw [nI_clamp (by omega)]; exact hgo) (br_t rfl ⟨i0, nm_r (show 0 + lf (nI 0).toNatClampNeg = nI w by rw [c0, h7]; exact (nI_add 0 w).trans (by rw [Nat.zero_add])) ⟨i0, nm_r (show ne (nI 0).toNatClampNeg = -1 by rw [c0]; exact h2) (br_t (by decide) H)⟩⟩)⟩)
  exfalso
  rcases z with z | z
  · rw [h7] at z
    exact nI_nle hw0 (by omega) z
  · exact z (by rw [l1, l2]; decide)
theorem fs_thr_b {post : Int32 → Prop} {pr so si ed fl qf qs oc : Int32} {fr tp ro et lf fe ne lv cu cb ex hg qu qd pa gn nd tr og : Nat → Int32} {s t w : Nat} (hs : s < 16) (ht : t < 16) (hn : fs_lv s t w et lf fe ne) (hw : w ≤ 99) (hw0 : 0 < w) (l1 : lv s = 0) (l2 : lv t = 1) (hgo : gn s = 0)
    (H : post (nI w)) : wpX_through post (pr, so, si, ed, fl, qf, qs, oc, fr, tp, ro, et, lf, fe, ne, lv, cu, cb, ex, hg, qu, qd, pa, gn, nd, tr, og) (nI t) 1 := by
  obtain ⟨h1, h2, h3, h4, h5, h6, h7, h8⟩ := hn
  unfold wpX_through
  have c0 : (nI 0).toNatClampNeg = 0 := nI_clamp (by omega)
  have c1 : (nI 1).toNatClampNeg = 1 := nI_clamp (by omega)
  have i0 : vp_in (nI 0) 56 := pk_in 0 56 (by omega)
  have i1 : vp_in (nI 1) 56 := pk_in 1 56 (by omega)
  have xx : nI 1 ^^^ 1 = nI 0 := by decide
  refine ⟨pk_in t 16 ht, nm_r (show fe (nI t).toNatClampNeg = nI 1 by rw [nI_clamp (by omega)]; exact h4) ⟨2, br_f (by decide) ⟨i1, nm_r (show et (nI 1).toNatClampNeg = nI s by rw [c1]; exact h6) (br_f (by decide) ?_)⟩⟩⟩
  refine fs_leads (u := s) (e := 0) (v := t) hs (by omega) ht rfl xx h3 (fun z => ?_) (fun _ _ => br_f (by decide) ⟨pk_in s 16 hs, br_t (by rw [nI_clamp (by omega)]; exact hgo) (br_f (by decide) ⟨by rw [xx]; exact i0, nm_r (show 0 + lf (nI 1 ^^^ 1).toNatClampNeg = nI w by rw [xx, c0, h7]; exact (nI_add 0 w).trans (by rw [Nat.zero_add])) ⟨i1, nm_r (show ne (nI 1).toNatClampNeg = -1 by rw [c1]; exact h5) (br_t (by decide) H)⟩⟩)⟩)
  exfalso
  rcases z with z | z
  · rw [h7] at z
    exact nI_nle hw0 (by omega) z
  · exact z (by rw [l1, l2]; decide)
/-- what weakestNode holds: nothing yet, or one of the two -/
def fs_wk (s t w i : Nat) (z : Int32 × Int32) : Prop := (i ≤ s ∧ i ≤ t ∧ z.1 = -1 ∧ z.2 = nI 1048576) ∨ ((∃ r, (r = s ∨ r = t) ∧ z.1 = nI r) ∧ z.2 = nI w)
theorem fs_wk78 {post : Int32 → St2 → Prop} {J : Int32 → Int32 → Int32 → Prop} {x1 x2 : Int32} {pr so si ed fl qf qs oc : Int32} {fr tp ro et lf fe ne lv cu cb ex hg qu qd pa gn nd tr og : Nat → Int32} {s t w i : Nat} (hw : w ≤ 99) (hi : i = s ∨ i = t) (hi16 : i < 16) (hz : fs_wk s t w i (x1, x2))
    (H : ∀ z : Int32 × Int32, fs_wk s t w (i + 1) z → J z.1 z.2 (nI (i + 1))) : wX_weakestNode_78 post J x1 x2 (nI i) (nI w) pr so si ed fl qf qs oc fr tp ro et lf fe ne lv cu cb ex hg qu qd pa gn nd tr og := by
  rcases hz with ⟨_, _, z1, z2⟩ | ⟨⟨r, hr, z1⟩, z2⟩
  · have e1 : x1 = -1 := z1
    have e2 : x2 = nI 1048576 := z2
    subst e1 e2
    exact br_f (nI_ge (by omega) (by omega)) (br_f (nI_ge (by omega) (by omega)) (nm_r (nI_1 i) (H (nI i, nI w) (Or.inr ⟨⟨i, hi, rfl⟩, rfl⟩))))
  · have e1 : x1 = nI r := z1
    have e2 : x2 = nI w := z2
    subst e1 e2
    exact br_t (nI_le (Nat.le_refl _) (by omega)) (br_t (nI_le (Nat.le_refl _) (by omega)) (nm_r (nI_1 i) (H (nI r, nI w) (Or.inr ⟨⟨r, hr, rfl⟩, rfl⟩))))
theorem fs_weakest {post : Int32 → St2 → Prop} {pr so si ed fl qf qs oc : Int32} {fr tp ro et lf fe ne lv cu cb ex hg qu qd pa gn nd tr og : Nat → Int32} {s t w : Nat} (hs : s < 16) (ht : t < 16) (hst : s ≠ t) (hso : so = nI s) (hsi : si = nI t) (hn : fs_lv s t w et lf fe ne) (hw : w ≤ 99) (hw0 : 0 < w) (l1 : lv s = 0) (l2 : lv t = 1)
    (g1 : gn s = 0) (g2 : gn t = 0) (g3 : ∀ j, j < 16 → j ≠ s → j ≠ t → gn j = 1)
    (H : ∀ r : Nat, (r = s ∨ r = t) → post (nI r) (pr, so, si, ed, fl, qf, qs, oc, fr, tp, ro, et, lf, fe, ne, lv, cu, cb, ex, hg, qu, qd, pa, gn, upd nd 0 (nI w), tr, og)) : wpX_weakestNode post (pr, so, si, ed, fl, qf, qs, oc, fr, tp, ro, et, lf, fe, ne, lv, cu, cb, ex, hg, qu, qd, pa, gn, nd, tr, og) := by
  subst hso hsi
  unfold wpX_weakestNode
  refine pk_loop (fun n i (z : Int32 × Int32) => wX_weakestNode_7 post pr (nI s) (nI t) ed fl qf qs oc fr tp ro et lf fe ne lv cu cb ex hg qu qd pa gn nd tr og n z.1 z.2 (nI i)) (fun i z => fs_wk s t w i z) 16 0 (-1, 1048576) (by omega) (Or.inl ⟨by omega, by omega, rfl, rfl⟩) ?_ ?_
  · rintro n ⟨x1, x2⟩ h
    refine pk_le 16 16 (fun _ => ?_) (fun z => absurd z (by omega))
    rcases h with ⟨z, _⟩ | ⟨⟨r, hr, z1⟩, z2⟩
    · exact absurd z (by omega)
    · have e1 : x1 = nI r := z1
      have e2 : x2 = nI w := z2
      subst e1 e2
      exact nm_e (H r hr)
  · rintro n i ⟨x1, x2⟩ hi h hw'
    have ci : (nI i).toNatClampNeg = i := nI_clamp (by omega)
    have ii : vp_in (nI i) 16 := pk_in i 16 hi
    refine pk_le 16 i (fun z => absurd z (by omega)) (fun _ => ⟨ii, ?_⟩)
    by_cases a : i = s
    · subst a
      refine br_t (by rw [ci]; exact g1) (br_t rfl (br_f (by rw [nI_eq (by omega) (by omega)]; exact hst) (fs_thr_f hs ht hn hw hw0 l1 l2 g2 (br_t (nI_le (b := 1048576) (by omega) (by omega)) (fs_wk78 (s := i) (t := t) hw (Or.inl rfl) hi h hw')))))
    · by_cases b : i = t
      · subst b
        refine br_t (by rw [ci]; exact g2) (br_f (by rw [nI_eq (by omega) (by omega)]; exact a) (fs_thr_b hs ht hn hw hw0 l1 l2 g1 (br_t rfl (br_f (nI_ge (b := 1048576) (by omega) (by omega)) (fs_wk78 (s := s) (t := i) hw (Or.inr rfl) hi h hw')))))
      · refine br_f (by rw [ci, g3 i hi a b]; decide) (nm_r (nI_1 i) (hw' (x1, x2) ?_))
        rcases h with ⟨y1, y2, y3⟩ | y
        · exact Or.inl ⟨by omega, by omega, y3⟩
        · exact Or.inr y
abbrev fs_J9 : Type := Int32 → fs_J8
theorem fs_sf63 {post : St2 → Prop} {J : fs_J9} {x2 : Int32} {pr so si ed fl qf qs oc : Int32} {fr tp ro et lf fe ne lv cu cb ex hg qu qd pa gn nd tr og : Nat → Int32} {n v e w : Nat} (hn : n < 16) (hv : v < 16) (he : e < 56) (hne : ne e = -1) (hgo : gn v = 0) (hd : nd n = nI w) (h7 : lf 0 = nI w) (hw : w ≤ 99)
    (H : ∀ (nd' : Nat → Int32), J (-1) pr so si ed fl qf qs oc fr tp ro et (fs_mv lf 0 (nI w)) fe ne lv cu cb ex hg qu qd pa gn nd' tr og) : wX_spreadFrom_63 post J (nI n) x2 (nI e) (nI v) (nI 0) 1 pr so si ed fl qf qs oc fr tp ro et lf fe ne lv cu cb ex hg qu qd pa gn nd tr og := by
  have c0 : (nI 0).toNatClampNeg = 0 := nI_clamp (by omega)
  have cn : (nI n).toNatClampNeg = n := nI_clamp (by omega)
  have cv : (nI v).toNatClampNeg = v := nI_clamp (by omega)
  have ce : (nI e).toNatClampNeg = e := nI_clamp (by omega)
  have i0 : vp_in (nI 0) 56 := pk_in 0 56 (by omega)
  have ie : vp_in (nI e) 56 := pk_in e 56 he
  have jn : vp_in (nI n) 16 := pk_in n 16 hn
  have jv : vp_in (nI v) 16 := pk_in v 16 hv
  refine br_f (by decide) ⟨jv, br_t (by rw [cv]; exact hgo) ⟨i0, jn, br_t (by rw [cn, c0, hd, h7]; exact nI_le (Nat.le_refl _) (by omega)) ⟨jn, ?_⟩⟩⟩
  rw [cn, hd]
  exact fs_move (e := 0) (by omega) rfl ⟨jn, jn, nm_e ⟨jv, jv, nm_e ⟨ie, nm_r (show ne (nI e).toNatClampNeg = -1 by rw [ce]; exact hne) (H _)⟩⟩⟩
theorem fs_sf_f {post : St2 → Prop} {pr so si ed fl qf qs oc : Int32} {fr tp ro et lf fe ne lv cu cb ex hg qu qd pa gn nd tr og : Nat → Int32} {s t w : Nat} (hs : s < 16) (ht : t < 16) (hn : fs_lv s t w et lf fe ne) (hw : w ≤ 99) (hw0 : 0 < w) (l1 : lv s = 0) (l2 : lv t = 1) (hgo : gn t = 0) (hd : nd s = nI w)
    (H : ∀ (nd' : Nat → Int32), post (pr, so, si, ed, fl, qf, qs, oc, fr, tp, ro, et, fs_mv lf 0 (nI w), fe, ne, lv, cu, cb, ex, hg, qu, qd, pa, gn, nd', tr, og)) : wpX_spreadFrom post (pr, so, si, ed, fl, qf, qs, oc, fr, tp, ro, et, lf, fe, ne, lv, cu, cb, ex, hg, qu, qd, pa, gn, nd, tr, og) (nI s) 0 := by
  obtain ⟨h1, h2, h3, h4, h5, h6, h7, h8⟩ := hn
  unfold wpX_spreadFrom
  have c0 : (nI 0).toNatClampNeg = 0 := nI_clamp (by omega)
  have cs : (nI s).toNatClampNeg = s := nI_clamp (by omega)
  have i0 : vp_in (nI 0) 56 := pk_in 0 56 (by omega)
  have js : vp_in (nI s) 16 := pk_in s 16 hs
  refine ⟨js, nm_r (show fe (nI s).toNatClampNeg = nI 0 by rw [cs]; exact h1) ⟨2, br_f (by decide) ⟨js, br_f (by rw [cs, hd]; exact nI_nle hw0 (by omega)) ⟨i0, nm_r (show et (nI 0).toNatClampNeg = nI t by rw [c0]; exact h3) (br_t rfl (br_t rfl ?_))⟩⟩⟩⟩
  refine fs_leads hs (by omega) ht rfl rfl h3 (fun z => ?_) (fun _ _ => fs_sf63 hs ht (by omega) h2 hgo hd h7 hw (fun nd' => br_t (by decide) (H nd')))
  exfalso
  rcases z with z | z
  · rw [h7] at z
    exact nI_nle hw0 (by omega) z
  · exact z (by rw [l1, l2]; decide)
theorem fs_sf_b {post : St2 → Prop} {pr so si ed fl qf qs oc : Int32} {fr tp ro et lf fe ne lv cu cb ex hg qu qd pa gn nd tr og : Nat → Int32} {s t w : Nat} (hs : s < 16) (ht : t < 16) (hn : fs_lv s t w et lf fe ne) (hw : w ≤ 99) (hw0 : 0 < w) (l1 : lv s = 0) (l2 : lv t = 1) (hgo : gn s = 0) (hd : nd t = nI w)
    (H : ∀ (nd' : Nat → Int32), post (pr, so, si, ed, fl, qf, qs, oc, fr, tp, ro, et, fs_mv lf 0 (nI w), fe, ne, lv, cu, cb, ex, hg, qu, qd, pa, gn, nd', tr, og)) : wpX_spreadFrom post (pr, so, si, ed, fl, qf, qs, oc, fr, tp, ro, et, lf, fe, ne, lv, cu, cb, ex, hg, qu, qd, pa, gn, nd, tr, og) (nI t) 1 := by
  obtain ⟨h1, h2, h3, h4, h5, h6, h7, h8⟩ := hn
  unfold wpX_spreadFrom
  have c1 : (nI 1).toNatClampNeg = 1 := nI_clamp (by omega)
  have ct : (nI t).toNatClampNeg = t := nI_clamp (by omega)
  have i1 : vp_in (nI 1) 56 := pk_in 1 56 (by omega)
  have jt : vp_in (nI t) 16 := pk_in t 16 ht
  have xx : nI 1 ^^^ 1 = nI 0 := by decide
  refine ⟨jt, nm_r (show fe (nI t).toNatClampNeg = nI 1 by rw [ct]; exact h4) ⟨2, br_f (by decide) ⟨jt, br_f (by rw [ct, hd]; exact nI_nle hw0 (by omega)) ⟨i1, nm_r (show et (nI 1).toNatClampNeg = nI s by rw [c1]; exact h6) (br_f (by decide) (br_f (by decide) ?_))⟩⟩⟩⟩
  rw [xx]
  refine fs_leads hs (by omega) ht rfl rfl h3 (fun z => ?_) (fun _ _ => fs_sf63 ht hs (by omega) h5 hgo hd h7 hw (fun nd' => br_t (by decide) (H nd')))
  exfalso
  rcases z with z | z
  · rw [h7] at z
    exact nI_nle hw0 (by omega) z
  · exact z (by rw [l1, l2]; decide)
/-- one level is spread: node n0 alone has something -/
theorem fs_sp85 {post : St2 → Prop} {J : fs_J9} {x3 x4 x5 x6 : Int32} {pr so si ed fl qf qs oc : Int32} {fr tp ro et lf fe ne lv cu cb ex hg qu qd pa gn nd tr og : Nat → Int32} {n0 w : Nat} (h0 : n0 < 16) (hgo : gn n0 = 0) (hl : lv n0 = x6) (hd : nd n0 = nI w) (hw : w ≤ 99) (hw0 : 0 < w) (ho : ∀ j, j < 16 → j ≠ n0 → gn j = 0 → ¬ lv j = x6)
    (hf : ∀ Q : St2 → Prop, (∀ (nd' : Nat → Int32), Q (pr, so, si, ed, fl, qf, qs, oc, fr, tp, ro, et, fs_mv lf 0 (nI w), fe, ne, lv, cu, cb, ex, hg, qu, qd, pa, gn, nd', tr, og)) → wpX_spreadFrom Q (pr, so, si, ed, fl, qf, qs, oc, fr, tp, ro, et, lf, fe, ne, lv, cu, cb, ex, hg, qu, qd, pa, gn, nd, tr, og) (nI n0) x3)
    (H : ∀ (nd' : Nat → Int32), J (x6 + x5) pr so si ed fl qf qs oc fr tp ro et (fs_mv lf 0 (nI w)) fe ne lv cu cb ex hg qu qd pa gn nd' tr og) : ∃ n, wX_spread_85 post J x3 x4 x5 x6 n 0 pr so si ed fl qf qs oc fr tp ro et lf fe ne lv cu cb ex hg qu qd pa gn nd tr og := by
  refine pk_loop (fun n i (z : (Nat → Int32) × (Nat → Int32)) => wX_spread_85 post J x3 x4 x5 x6 n (nI i) pr so si ed fl qf qs oc fr tp ro et z.1 fe ne lv cu cb ex hg qu qd pa gn z.2 tr og) (fun i z => (i ≤ n0 ∧ z = (lf, nd)) ∨ (n0 < i ∧ z.1 = fs_mv lf 0 (nI w))) 16 0 (lf, nd) (by omega) (Or.inl ⟨by omega, rfl⟩) ?_ ?_
  · rintro n ⟨lf', nd'⟩ h
    rcases h with ⟨z, _⟩ | ⟨_, z⟩
    · exact absurd z (by omega)
    · have e : lf' = fs_mv lf 0 (nI w) := z
      subst e
      exact pk_le 16 16 (fun _ => nm_e (H nd')) (fun z => absurd z (by omega))
  · rintro n i ⟨lf', nd'⟩ hi h hw'
    have ci : (nI i).toNatClampNeg = i := nI_clamp (by omega)
    have ii : vp_in (nI i) 16 := pk_in i 16 hi
    refine pk_le 16 i (fun z => absurd z (by omega)) (fun _ => ⟨ii, ?_⟩)
    by_cases a : i = n0
    · subst a
      rcases h with ⟨_, z⟩ | ⟨z, _⟩
      · obtain ⟨e1, e2⟩ := Prod.mk.inj z
        subst e1 e2
        exact br_t (by rw [ci]; exact hgo) ⟨ii, br_t (by rw [ci]; exact hl) ⟨ii, br_f (show ¬ nd' (nI i).toNatClampNeg ≤ 0 by rw [ci, hd]; exact nI_nle hw0 (by omega)) (hf _ (fun nd2 => nm_r (nI_1 i) (hw' (_, nd2) (Or.inr ⟨by omega, rfl⟩))))⟩⟩
      · exact absurd z (by omega)
    · have nxt : ∀ y : Int32, y = nI i + 1 → wX_spread_85 post J x3 x4 x5 x6 n y pr so si ed fl qf qs oc fr tp ro et lf' fe ne lv cu cb ex hg qu qd pa gn nd' tr og := nm_r (nI_1 i) (hw' (lf', nd') (h.imp (fun z => ⟨by omega, z.2⟩) (fun z => ⟨by omega, z.2⟩)))
      exact br_c (fun g => ⟨ii, br_f (by rw [ci]; rw [ci] at g; exact ho i hi a g) nxt⟩) (fun _ => nxt)
theorem fs_spread3 {post : St2 → Prop} {x3 : Int32} {pr so si ed fl qf qs oc : Int32} {fr tp ro et lf fe ne lv cu cb ex hg qu qd pa gn nd tr og : Nat → Int32} {n0 w : Nat} (h0 : n0 < 16)
    (H : ∀ (nd' : Nat → Int32), nd' n0 = nI w → (x3 = 0 → wX_spread_49 post (nI n0) x3 si pr so si ed fl qf qs oc fr tp ro et lf fe ne lv cu cb ex hg qu qd pa gn nd' tr og) ∧ (¬ x3 = 0 → wX_spread_49 post (nI n0) x3 so pr so si ed fl qf qs oc fr tp ro et lf fe ne lv cu cb ex hg qu qd pa gn nd' tr og)) : wpX_spread post (pr, so, si, ed, fl, qf, qs, oc, fr, tp, ro, et, lf, fe, ne, lv, cu, cb, ex, hg, qu, qd, pa, gn, nd, tr, og) (nI n0) (nI w) x3 := by
  unfold wpX_spread
  refine fs_fill (fun n i s => wX_spread_3 post (nI n0) (nI w) x3 pr so si ed fl qf qs oc n i fr tp ro et lf fe ne lv cu cb ex hg qu qd pa gn s tr og) 16 (fun j => if j = n0 then nI w else 0) nd ?_ ?_
  · intro n i s hi hw
    have ci : (nI i).toNatClampNeg = i := nI_clamp (by omega)
    have ii : vp_in (nI i) 16 := pk_in i 16 hi
    refine pk_le 16 i (fun z => absurd z (by omega)) (fun _ => pk_eq i n0 (fun z => ⟨ii, nm_r (show upd s (nI i).toNatClampNeg (nI w) = upd s i (if i = n0 then nI w else 0) by rw [ci, if_pos z]) (nm_r (nI_1 i) hw)⟩) (fun z => ⟨ii, nm_r (show upd s (nI i).toNatClampNeg 0 = upd s i (if i = n0 then nI w else 0) by rw [ci, if_neg z]) (nm_r (nI_1 i) hw)⟩))
  · intro n s h
    exact pk_le 16 16 (fun _ => H s (by rw [h n0 h0]; exact if_pos rfl)) (fun z => absurd z (by omega))
/-- from the sink to the sink, from the source to the source: nothing to do -/
theorem fs_spread_t {post : St2 → Prop} {pr so si ed fl qf qs oc : Int32} {fr tp ro et lf fe ne lv cu cb ex hg qu qd pa gn nd tr og : Nat → Int32} {t w : Nat} (ht : t < 16) (hsi : si = nI t) (H : ∀ (nd' : Nat → Int32), post (pr, so, si, ed, fl, qf, qs, oc, fr, tp, ro, et, lf, fe, ne, lv, cu, cb, ex, hg, qu, qd, pa, gn, nd', tr, og)) : wpX_spread post (pr, so, si, ed, fl, qf, qs, oc, fr, tp, ro, et, lf, fe, ne, lv, cu, cb, ex, hg, qu, qd, pa, gn, nd, tr, og) (nI t) (nI w) 0 := by
  subst hsi
  have jt : vp_in (nI t) 16 := pk_in t 16 ht
  exact fs_spread3 ht (fun nd' _ => br_t rfl (br_t rfl ⟨jt, nm_e ⟨1, jt, br_t rfl (H nd')⟩⟩))
theorem fs_spread_s {post : St2 → Prop} {pr so si ed fl qf qs oc : Int32} {fr tp ro et lf fe ne lv cu cb ex hg qu qd pa gn nd tr og : Nat → Int32} {s w : Nat} (hs : s < 16) (hso : so = nI s) (H : ∀ (nd' : Nat → Int32), post (pr, so, si, ed, fl, qf, qs, oc, fr, tp, ro, et, lf, fe, ne, lv, cu, cb, ex, hg, qu, qd, pa, gn, nd', tr, og)) : wpX_spread post (pr, so, si, ed, fl, qf, qs, oc, fr, tp, ro, et, lf, fe, ne, lv, cu, cb, ex, hg, qu, qd, pa, gn, nd, tr, og) (nI s) (nI w) 1 := by
  subst hso
  have js : vp_in (nI s) 16 := pk_in s 16 hs
  exact fs_spread3 hs (fun nd' _ => br_f (by decide) (br_f (by decide) ⟨js, nm_e ⟨1, js, br_t rfl (H nd')⟩⟩))
theorem fs_spread_st {post : St2 → Prop} {pr so si ed fl qf qs oc : Int32} {fr tp ro et lf fe ne lv cu cb ex hg qu qd pa gn nd tr og : Nat → Int32} {s t w : Nat} (hs : s < 16) (ht : t < 16) (hst : s ≠ t) (hsi : si = nI t) (hn : fs_lv s t w et lf fe ne) (hw : w ≤ 99) (hw0 : 0 < w) (l1 : lv s = 0) (l2 : lv t = 1)
    (g1 : gn s = 0) (g2 : gn t = 0) (g3 : ∀ j, j < 16 → j ≠ s → j ≠ t → gn j = 1)
    (H : ∀ (nd' : Nat → Int32), post (pr, so, si, ed, fl, qf, qs, oc, fr, tp, ro, et, fs_mv lf 0 (nI w), fe, ne, lv, cu, cb, ex, hg, qu, qd, pa, gn, nd', tr, og)) : wpX_spread post (pr, so, si, ed, fl, qf, qs, oc, fr, tp, ro, et, lf, fe, ne, lv, cu, cb, ex, hg, qu, qd, pa, gn, nd, tr, og) (nI s) (nI w) 0 := by
  subst hsi
  have js : vp_in (nI s) 16 := pk_in s 16 hs
  have jt : vp_in (nI t) 16 := pk_in t 16 ht
  have cs : (nI s).toNatClampNeg = s := nI_clamp (by omega)
  have ct : (nI t).toNatClampNeg = t := nI_clamp (by omega)
  refine fs_spread3 hs (fun nd' hd => br_t rfl (br_t rfl ⟨js, nm_r (show lv (nI s).toNatClampNeg = 0 by rw [cs]; exact l1) ⟨2, jt, br_f (by rw [ct, l2]; decide) ?_⟩⟩))
  refine fs_sp85 hs g1 l1 hd hw hw0 (fun j hj a g => ?_) (fun Q hQ => fs_sf_f hs ht hn hw hw0 l1 l2 g2 hd hQ) (fun nd2 => ⟨jt, br_t (by rw [ct, l2]; decide) (H nd2)⟩)
  by_cases b : j = t
  · rw [b, l2]; decide
  · rw [g3 j hj a b] at g
    exact absurd g (by decide)
theorem fs_spread_ts {post : St2 → Prop} {pr so si ed fl qf qs oc : Int32} {fr tp ro et lf fe ne lv cu cb ex hg qu qd pa gn nd tr og : Nat → Int32} {s t w : Nat} (hs : s < 16) (ht : t < 16) (hst : s ≠ t) (hso : so = nI s) (hn : fs_lv s t w et lf fe ne) (hw : w ≤ 99) (hw0 : 0 < w) (l1 : lv s = 0) (l2 : lv t = 1)
    (g1 : gn s = 0) (g2 : gn t = 0) (g3 : ∀ j, j < 16 → j ≠ s → j ≠ t → gn j = 1)
    (H : ∀ (nd' : Nat → Int32), post (pr, so, si, ed, fl, qf, qs, oc, fr, tp, ro, et, fs_mv lf 0 (nI w), fe, ne, lv, cu, cb, ex, hg, qu, qd, pa, gn, nd', tr, og)) : wpX_spread post (pr, so, si, ed, fl, qf, qs, oc, fr, tp, ro, et, lf, fe, ne, lv, cu, cb, ex, hg, qu, qd, pa, gn, nd, tr, og) (nI t) (nI w) 1 := by
  subst hso
  have js : vp_in (nI s) 16 := pk_in s 16 hs
  have jt : vp_in (nI t) 16 := pk_in t 16 ht
  have cs : (nI s).toNatClampNeg = s := nI_clamp (by omega)
  have ct : (nI t).toNatClampNeg = t := nI_clamp (by omega)
  refine fs_spread3 ht (fun nd' hd => br_f (by decide) (br_f (by decide) ⟨jt, nm_r (show lv (nI t).toNatClampNeg = 1 by rw [ct]; exact l2) ⟨2, js, br_f (by rw [cs, l1]; decide) ?_⟩⟩))
  refine fs_sp85 ht g2 l2 hd hw hw0 (fun j hj a g => ?_) (fun Q hQ => fs_sf_b hs ht hn hw hw0 l1 l2 g1 hd hQ) (fun nd2 => ⟨js, br_t (by rw [cs, l1]; decide) (H nd2)⟩)
  by_cases b : j = s
  · rw [b, l1]; decide
  · rw [g3 j hj b a] at g
    exact absurd g (by decide)
theorem fs_fillWeak {post : St2 → Prop} {pr so si ed fl qf qs oc : Int32} {fr tp ro et lf fe ne lv cu cb ex hg qu qd pa gn nd tr og : Nat → Int32} {s t w : Nat} (hs : s < 16) (ht : t < 16) (hst : s ≠ t) (hso : so = nI s) (hsi : si = nI t) (hn : fs_lv s t w et lf fe ne) (hw : w ≤ 99) (hw0 : 0 < w) (l1 : lv s = 0) (l2 : lv t = 1)
    (g1 : gn s = 0) (g2 : gn t = 0) (g3 : ∀ j, j < 16 → j ≠ s → j ≠ t → gn j = 1)
    (H : ∀ (gn' nd' : Nat → Int32), post (pr, so, si, ed, fl + nI w, qf, qs, oc, fr, tp, ro, et, fs_mv lf 0 (nI w), fe, ne, lv, cu, cb, ex, hg, qu, qd, pa, gn', nd', tr, og)) : wpX_fillByWeakest post (pr, so, si, ed, fl, qf, qs, oc, fr, tp, ro, et, lf, fe, ne, lv, cu, cb, ex, hg, qu, qd, pa, gn, nd, tr, og) := by
  unfold wpX_fillByWeakest
  have js : vp_in so 16 := by rw [hso]; exact pk_in s 16 hs
  have jt : vp_in si 16 := by rw [hsi]; exact pk_in t 16 ht
  have cs : so.toNatClampNeg = s := by rw [hso]; exact nI_clamp (by omega)
  have ct : si.toNatClampNeg = t := by rw [hsi]; exact nI_clamp (by omega)
  refine ⟨2, js, br_t (by rw [cs]; exact g1) ⟨jt, br_t (by rw [ct]; exact g2) (fs_weakest hs ht hst hso hsi hn hw hw0 l1 l2 g1 g2 g3 (fun r hr => nm_r pk_us (br_f (nI_nle hw0 (by omega)) ?_)))⟩⟩
  rcases hr with rfl | rfl
  · refine fs_spread_st hs ht hst hsi hn hw hw0 l1 l2 g1 g2 g3 (fun nd' => fs_spread_s hs hso (fun nd2 => nm_e ⟨pk_in r 16 hs, nm_r (by rw [nI_clamp (by omega)]) ⟨js, br_f (by rw [cs, pk_us]; decide) (H _ _)⟩⟩))
  · refine fs_spread_t ht hsi (fun nd' => fs_spread_ts hs ht hst hso hn hw hw0 l1 l2 g1 g2 g3 (fun nd2 => nm_e ⟨pk_in r 16 ht, nm_r (by rw [nI_clamp (by omega)]) ⟨js, br_t (by rw [cs, pk_un hst]; exact g1) ⟨jt, br_f (by rw [ct, pk_us]; decide) (H _ _)⟩⟩⟩))
theorem fs_e5_10 {post : St2 → Prop} {J : fs_J8} {pr so si ed fl qf qs oc : Int32} {fr tp ro et lf fe ne lv cu cb ex hg qu qd pa gn nd tr og : Nat → Int32} {s t : Nat} (hs : s < 16) (ht : t < 16) (hst : s ≠ t) (hsi : si = nI t) (l1 : lv s = 0) (l2 : lv t = 1) (l3 : ∀ j, j < 16 → j ≠ s → j ≠ t → lv j = -1)
    (H : ∀ (gn' : Nat → Int32), gn' s = 0 → gn' t = 0 → (∀ j, j < 16 → j ≠ s → j ≠ t → gn' j = 1) → wpX_fillByWeakest (fun u => match u with | (pr, so, si, ed, fl, qf, qs, oc, fr, tp, ro, et, lf, fe, ne, lv, cu, cb, ex, hg, qu, qd, pa, gn, nd, tr, og) => J pr so si ed fl qf qs oc fr tp ro et lf fe ne lv cu cb ex hg qu qd pa gn nd tr og) (pr, so, si, ed, fl, qf, qs, oc, fr, tp, ro, et, lf, fe, ne, lv, cu, cb, ex, hg, qu, qd, pa, gn', nd, tr, og)) :
    ∃ n, wX_solveByWeakestNodes_10 post J pr so si ed fl qf qs oc n 0 fr tp ro et lf fe ne lv cu cb ex hg qu qd pa gn nd tr og := by
  subst hsi
  refine fs_fill (fun n i x => wX_solveByWeakestNodes_10 post J pr so (nI t) ed fl qf qs oc n i fr tp ro et lf fe ne lv cu cb ex hg qu qd pa x nd tr og) 16 (fun j => if j = s ∨ j = t then 0 else 1) gn ?_ ?_
  · intro n i x hi hw
    have ci : (nI i).toNatClampNeg = i := nI_clamp (by omega)
    have ct : (nI t).toNatClampNeg = t := nI_clamp (by omega)
    have ii : vp_in (nI i) 16 := pk_in i 16 hi
    refine pk_le 16 i (fun z => absurd z (by omega)) (fun _ => ⟨ii, ?_⟩)
    by_cases a : i = s
    · exact br_f (by rw [ci, a, l1]; decide) (br_f (by rw [nI_eq (by omega) (by omega)]; omega) ⟨ii, pk_in t 16 ht, br_t (by rw [ci, ct, a, l1, l2]; decide) ⟨ii, nm_r (show upd x (nI i).toNatClampNeg 0 = upd x i (if i = s ∨ i = t then 0 else 1) by rw [ci, if_pos (Or.inl a)]) (nm_r (nI_1 i) hw)⟩⟩)
    · by_cases b : i = t
      · exact br_f (by rw [ci, b, l2]; decide) (br_t (by rw [b]) ⟨ii, nm_r (show upd x (nI i).toNatClampNeg 0 = upd x i (if i = s ∨ i = t then 0 else 1) by rw [ci, if_pos (Or.inr b)]) (nm_r (nI_1 i) hw)⟩)
      · exact br_t (by rw [ci, l3 i hi a b]; decide) ⟨ii, nm_r (show upd x (nI i).toNatClampNeg 1 = upd x i (if i = s ∨ i = t then 0 else 1) by rw [ci, if_neg (by omega)]) (nm_r (nI_1 i) hw)⟩
  · intro n x h
    exact pk_le 16 16 (fun _ => H x (by rw [h s hs]; exact if_pos (Or.inl rfl)) (by rw [h t ht]; exact if_pos (Or.inr rfl)) (fun j hj a b => by rw [h j hj]; exact if_neg (by omega))) (fun z => absurd z (by omega))
theorem fs_e5_dead {post : St2 → Prop} {pr so si ed fl qf qs oc : Int32} {fr tp ro et lf fe ne lv cu cb ex hg qu qd pa gn nd tr og : Nat → Int32} {s t : Nat} (hs : s < 16) (ht : t < 16) (hst : s ≠ t) (hso : so = nI s) (hsi : si = nI t) (hn : fs_dead s t 1 et lf fe ne)
    (H : fs_R post pr so si ed fr tp ro et fe ne (fun f l => f = fl ∧ l = lf)) : wpX_solveByWeakestNodes post (pr, so, si, ed, fl, qf, qs, oc, fr, tp, ro, et, lf, fe, ne, lv, cu, cb, ex, hg, qu, qd, pa, gn, nd, tr, og) := by
  unfold wpX_solveByWeakestNodes
  exact ⟨1, fs_fl_dead hs ht hst hso hsi hn (fun _ _ _ _ _ _ => br_t rfl (H _ _ _ _ _ _ _ _ _ _ _ _ _ _ _ _ _ ⟨rfl, rfl⟩))⟩
theorem fs_e5_live {post : St2 → Prop} {pr so si ed fl qf qs oc : Int32} {fr tp ro et lf fe ne lv cu cb ex hg qu qd pa gn nd tr og : Nat → Int32} {s t w : Nat} (hs : s < 16) (ht : t < 16) (hst : s ≠ t) (hso : so = nI s) (hsi : si = nI t) (hw : w ≤ 99) (hw0 : 0 < w) (hn : fs_lv s t w et lf fe ne)
    (H : fs_R post pr so si ed fr tp ro et fe ne (fun f l => f = fl + nI w ∧ l 0 = 0 ∧ l 1 = nI w)) : wpX_solveByWeakestNodes post (pr, so, si, ed, fl, qf, qs, oc, fr, tp, ro, et, lf, fe, ne, lv, cu, cb, ex, hg, qu, qd, pa, gn, nd, tr, og) := by
  have g0 := fs_mv00 hn.2.2.2.2.2.2.1
  have g1 := fs_mv01 (w := w) hn.2.2.2.2.2.2.2
  unfold wpX_solveByWeakestNodes
  refine ⟨2, fs_fl_live hs ht hst hso hsi (fs_lv_to (L := 1) ht hst hw hn (by omega)) (fun _ _ _ _ _ _ l1 l2 l3 l4 => br_f (by decide) (fs_e5_10 hs ht hst hsi l1 l2 l3 (fun gn' b1 b2 b3 => ?_)))⟩
  refine fs_fillWeak hs ht hst hso hsi hn hw hw0 l1 l2 b1 b2 b3 (fun gn2 nd2 => ?_)
  exact fs_fl_no hs ht hst hso hsi (fs_lv_done (L := 1) ht hn g0 (by omega) (by omega)) (fun _ _ _ _ _ _ => br_t rfl (H _ _ _ _ _ _ _ _ _ _ _ _ _ _ _ _ _ ⟨rfl, g0, g1⟩))
end
section
/-! engine 6 -/
theorem fs_open {post : Int32 → Prop} {pr so si ed fl qf qs oc : Int32} {fr tp ro et lf fe ne lv cu cb ex hg qu qd pa gn nd tr og : Nat → Int32} {n e : Nat} (hn : n < 16) (he : e < 56)
    (H0 : ((tr n = 1 ∧ lf e ≤ 0) ∨ (¬ tr n = 1 ∧ lf (e ^^^ 1) ≤ 0)) → post 0) (H1 : ((tr n = 1 ∧ ¬ lf e ≤ 0) ∨ (¬ tr n = 1 ∧ ¬ lf (e ^^^ 1) ≤ 0)) → post 1) : wpX_isOpen post (pr, so, si, ed, fl, qf, qs, oc, fr, tp, ro, et, lf, fe, ne, lv, cu, cb, ex, hg, qu, qd, pa, gn, nd, tr, og) (nI n) (nI e) := by
  obtain ⟨x1, x2⟩ := fs_xe e he
  unfold wpX_isOpen
  dsimp only
  rw [x1, nI_clamp (show n < 2 ^ 31 by omega), nI_clamp (show e < 2 ^ 31 by omega), nI_clamp (show e ^^^ 1 < 2 ^ 31 by omega)]
  exact ⟨pk_in n 16 hn, br_c (fun a => ⟨pk_in e 56 he, br_c (fun b => H0 (Or.inl ⟨a, b⟩)) (fun b => H1 (Or.inl ⟨a, b⟩))⟩) (fun a => ⟨pk_in (e ^^^ 1) 56 x2, br_c (fun b => H0 (Or.inr ⟨a, b⟩)) (fun b => H1 (Or.inr ⟨a, b⟩))⟩)⟩
/-- nothing leads on from node n: in the source's tree (k = 0), in the sink's (k = 1) -/
def fs_cl (k n : Nat) (et lf fe ne : Nat → Int32) : Prop := fe n = -1 ∨ ∃ e v : Nat, e < 56 ∧ v < 16 ∧ fe n = nI e ∧ ne e = -1 ∧ et e = nI v ∧ lf (e ^^^ k) ≤ 0
theorem fs_grow_no {post : Int32 → St2 → Prop} {pr so si ed fl qf qs oc : Int32} {fr tp ro et lf fe ne lv cu cb ex hg qu qd pa gn nd tr og : Nat → Int32} {n k : Nat} (hn : n < 16) (hk : (k = 0 ∧ tr n = 1) ∨ (k = 1 ∧ tr n = 2)) (hc : fs_cl k n et lf fe ne) (H : post (-1) (pr, so, si, ed, fl, qf, qs, oc, fr, tp, ro, et, lf, fe, ne, lv, cu, cb, ex, hg, qu, qd, pa, gn, nd, tr, og)) : wpX_grow post (pr, so, si, ed, fl, qf, qs, oc, fr, tp, ro, et, lf, fe, ne, lv, cu, cb, ex, hg, qu, qd, pa, gn, nd, tr, og) (nI n) := by
  unfold wpX_grow
  have cn : (nI n).toNatClampNeg = n := nI_clamp (by omega)
  refine ⟨pk_in n 16 hn, nm_r (show fe (nI n).toNatClampNeg = fe n by rw [cn]) ?_⟩
  rcases hc with h | ⟨e, v, he, hv, h1, h2, h3, h4⟩
  · rw [h]
    exact ⟨1, br_t (by decide) H⟩
  · rw [h1]
    have ce : (nI e).toNatClampNeg = e := nI_clamp (by omega)
    have ie : vp_in (nI e) 56 := pk_in e 56 he
    refine ⟨2, br_f (nI_pos (by omega)) ⟨ie, nm_r (show et (nI e).toNatClampNeg = nI v by rw [ce]; exact h3) (fs_open hn he (fun _ => br_t rfl ⟨ie, nm_r (show ne (nI e).toNatClampNeg = -1 by rw [ce]; exact h2) (br_t (by decide) H)⟩) (fun z => ?_))⟩⟩
    exfalso
    rcases hk with ⟨k0, t0⟩ | ⟨k0, t0⟩
    · subst k0
      rw [Nat.xor_zero] at h4
      rcases z with ⟨_, z⟩ | ⟨z, _⟩
      · exact z h4
      · exact z t0
    · subst k0
      rcases z with ⟨z, _⟩ | ⟨_, z⟩
      · rw [t0] at z
        exact absurd z (by decide)
      · exact z h4
theorem fs_grow_take {post : Int32 → St2 → Prop} {pr so si ed fl qf qs oc : Int32} {fr tp ro et lf fe ne lv cu cb ex hg qu qd pa gn nd tr og : Nat → Int32} {n k e v i c : Nat} (hn : n < 16) (hk : (k = 0 ∧ tr n = 1) ∨ (k = 1 ∧ tr n = 2)) (he : e < 56) (hv : v < 16) (hvn : v ≠ n) (h1 : fe n = nI e) (h2 : ne e = -1) (h3 : et e = nI v) (h4 : ¬ lf (e ^^^ k) ≤ 0) (h5 : tr v = 0)
    (hf : qf = nI i) (hc : qs = nI c) (hi : i + c < 64) (hq : qd v = 0)
    (H : ∀ (cb' : Nat → Int32), post (-1) (pr, so, si, ed, fl, qf, nI (c + 1), oc, fr, tp, ro, et, lf, fe, ne, lv, cu, cb', ex, hg, upd qu (i + c) (nI v), upd qd v 1, pa, gn, nd, upd tr v (tr n), og)) : wpX_grow post (pr, so, si, ed, fl, qf, qs, oc, fr, tp, ro, et, lf, fe, ne, lv, cu, cb, ex, hg, qu, qd, pa, gn, nd, tr, og) (nI n) := by
  unfold wpX_grow
  have cn : (nI n).toNatClampNeg = n := nI_clamp (by omega)
  have ce : (nI e).toNatClampNeg = e := nI_clamp (by omega)
  have cv : (nI v).toNatClampNeg = v := nI_clamp (by omega)
  have ie : vp_in (nI e) 56 := pk_in e 56 he
  have jn : vp_in (nI n) 16 := pk_in n 16 hn
  have jv : vp_in (nI v) 16 := pk_in v 16 hv
  have tn : vp_nar .byte (tr n) = tr n := by
    rcases hk with ⟨_, t0⟩ | ⟨_, t0⟩
    · rw [t0]; exact fs_nb (k := 1) (by omega)
    · rw [t0]; exact fs_nb (k := 2) (by omega)
  refine ⟨jn, nm_r (show fe (nI n).toNatClampNeg = nI e by rw [cn]; exact h1) ⟨2, br_f (nI_pos (by omega)) ⟨ie, nm_r (show et (nI e).toNatClampNeg = nI v by rw [ce]; exact h3) (fs_open hn he (fun z => ?_) (fun _ => br_f (by decide) ⟨jv, br_t (by rw [cv]; exact h5) ⟨jn, jv, nm_r (show upd tr (nI v).toNatClampNeg (vp_nar .byte (tr (nI n).toNatClampNeg)) = upd tr v (tr n) by rw [cv, cn, tn]) ⟨jn, ?_⟩⟩⟩))⟩⟩⟩
  · exfalso
    rcases hk with ⟨k0, t0⟩ | ⟨k0, t0⟩
    · subst k0
      rw [Nat.xor_zero] at h4
      rcases z with ⟨_, z⟩ | ⟨z, _⟩
      · exact h4 z
      · exact z t0
    · subst k0
      rcases z with ⟨z, _⟩ | ⟨_, z⟩
      · rw [t0] at z
        exact absurd z (by decide)
      · exact h4 z
  · have n1 : ne (nI e).toNatClampNeg = -1 := by rw [ce]; exact h2
    exact br_c (fun _ => ⟨jv, nm_e (fs_enq hv rfl hf hc hi hq ⟨ie, nm_r n1 (br_t (by decide) (H _))⟩)⟩) (fun _ => ⟨jv, nm_e (fs_enq hv rfl hf hc hi hq ⟨ie, nm_r n1 (br_t (by decide) (H _))⟩)⟩)
theorem fs_grow_hit {post : Int32 → St2 → Prop} {pr so si ed fl qf qs oc : Int32} {fr tp ro et lf fe ne lv cu cb ex hg qu qd pa gn nd tr og : Nat → Int32} {s t w : Nat} (hs : s < 16) (ht : t < 16) (hn : fs_lv s t w et lf fe ne) (hw : w ≤ 99) (hw0 : 0 < w) (t1 : tr s = 1) (t2 : tr t = 2) (H : post (nI 0) (pr, so, si, ed, fl, qf, qs, oc, fr, tp, ro, et, lf, fe, ne, lv, cu, cb, ex, hg, qu, qd, pa, gn, nd, tr, og)) : wpX_grow post (pr, so, si, ed, fl, qf, qs, oc, fr, tp, ro, et, lf, fe, ne, lv, cu, cb, ex, hg, qu, qd, pa, gn, nd, tr, og) (nI s) := by
  obtain ⟨h1, h2, h3, h4, h5, h6, h7, h8⟩ := hn
  unfold wpX_grow
  have cs : (nI s).toNatClampNeg = s := nI_clamp (by omega)
  have ct : (nI t).toNatClampNeg = t := nI_clamp (by omega)
  have c0 : (nI 0).toNatClampNeg = 0 := nI_clamp (by omega)
  have i0 : vp_in (nI 0) 56 := pk_in 0 56 (by omega)
  have js : vp_in (nI s) 16 := pk_in s 16 hs
  have jt : vp_in (nI t) 16 := pk_in t 16 ht
  refine ⟨js, nm_r (show fe (nI s).toNatClampNeg = nI 0 by rw [cs]; exact h1) ⟨1, br_f (by decide) ⟨i0, nm_r (show et (nI 0).toNatClampNeg = nI t by rw [c0]; exact h3) (fs_open hs (by omega) (fun z => ?_) (fun _ => br_f (by decide) ⟨jt, br_f (by rw [ct, t2]; decide) ⟨jt, js, br_f (by rw [ct, cs, t1, t2]; decide) ⟨js, br_t (by rw [cs]; exact t1) H⟩⟩⟩))⟩⟩⟩
  exfalso
  rcases z with ⟨_, z⟩ | ⟨z, _⟩
  · rw [h7] at z
    exact nI_nle hw0 (by omega) z
  · exact z t1
theorem fs_branch {post : St2 → Prop} {pr so si ed fl qf qs oc : Int32} {fr tp ro et lf fe ne lv cu cb ex hg qu qd pa gn nd tr og : Nat → Int32} {x y : Int32} (H : post (pr, so, si, ed, fl, qf, qs, oc, fr, tp, ro, et, lf, fe, ne, lv, cu, cb, ex, hg, qu, qd, pa, gn, nd, tr, og)) : wpX_fillBranch post (pr, so, si, ed, fl, qf, qs, oc, fr, tp, ro, et, lf, fe, ne, lv, cu, cb, ex, hg, qu, qd, pa, gn, nd, tr, og) x x y := by
  unfold wpX_fillBranch
  exact ⟨1, br_t rfl H⟩
theorem fs_bridge {post : St2 → Prop} {pr so si ed fl qf qs oc : Int32} {fr tp ro et lf fe ne lv cu cb ex hg qu qd pa gn nd tr og : Nat → Int32} {s t w : Nat} (hso : so = nI s) (hsi : si = nI t) (hn : fs_lv s t w et lf fe ne)
    (H : post (pr, so, si, ed, fl + nI w, qf, qs, oc, fr, tp, ro, et, fs_mv lf 0 (nI w), fe, ne, lv, cu, cb, ex, hg, qu, qd, pa, gn, nd, tr, og)) : wpX_fillBridge post (pr, so, si, ed, fl, qf, qs, oc, fr, tp, ro, et, lf, fe, ne, lv, cu, cb, ex, hg, qu, qd, pa, gn, nd, tr, og) (nI 0) := by
  obtain ⟨h1, h2, h3, h4, h5, h6, h7, h8⟩ := hn
  subst hso hsi
  unfold wpX_fillBridge
  have c0 : (nI 0).toNatClampNeg = 0 := nI_clamp (by omega)
  have c1 : (nI 1).toNatClampNeg = 1 := nI_clamp (by omega)
  have i0 : vp_in (nI 0) 56 := pk_in 0 56 (by omega)
  have i1 : vp_in (nI 1) 56 := pk_in 1 56 (by omega)
  have x0 : nI 0 ^^^ 1 = nI 1 := by decide
  refine ⟨i0, nm_r (show lf (nI 0).toNatClampNeg = nI w by rw [c0]; exact h7) ⟨by rw [x0]; exact i1, nm_r (show et (nI 0 ^^^ 1).toNatClampNeg = nI s by rw [x0, c1]; exact h6) ⟨i0, nm_r (show et (nI 0).toNatClampNeg = nI t by rw [c0]; exact h3) ⟨1, br_t rfl ⟨1, br_t rfl ?_⟩⟩⟩⟩⟩
  exact fs_move (e := 0) (by omega) rfl (fs_branch (fs_branch (nm_e H)))
theorem fs_adopt {post : St2 → Prop} {pr so si ed fl qf qs oc : Int32} {fr tp ro et lf fe ne lv cu cb ex hg qu qd pa gn nd tr og : Nat → Int32} (ho : oc = 0) (H : post (pr, so, si, ed, fl, qf, qs, oc, fr, tp, ro, et, lf, fe, ne, lv, cu, cb, ex, hg, qu, qd, pa, gn, nd, tr, og)) : wpX_adopt post (pr, so, si, ed, fl, qf, qs, oc, fr, tp, ro, et, lf, fe, ne, lv, cu, cb, ex, hg, qu, qd, pa, gn, nd, tr, og) := by
  subst ho
  unfold wpX_adopt
  exact ⟨1, br_t (by decide) H⟩
theorem fs_e6_init {post : St2 → Prop} {pr so si ed fl qf qs oc : Int32} {fr tp ro et lf fe ne lv cu cb ex hg qu qd pa gn nd tr og : Nat → Int32} {s t : Nat} (hs : s < 16) (ht : t < 16) (hst : s ≠ t) (hso : so = nI s) (hsi : si = nI t)
    (H : ∀ (cb' qu' qd' tr' : Nat → Int32), tr' s = 1 → tr' t = 2 → (∀ j, j < 16 → j ≠ s → j ≠ t → tr' j = 0) → qu' 0 = nI s → qu' 1 = nI t → (∀ j, j < 16 → j ≠ s → j ≠ t → qd' j = 0) → ∃ n, wX_solveByTwoTrees_80 post n 0 pr so si ed fl (nI 0) (nI 2) 0 fr tp ro et lf fe ne lv cu cb' ex hg qu' qd' pa gn nd tr' og) :
    wpX_solveByTwoTrees post (pr, so, si, ed, fl, qf, qs, oc, fr, tp, ro, et, lf, fe, ne, lv, cu, cb, ex, hg, qu, qd, pa, gn, nd, tr, og) := by
  subst hso hsi
  unfold wpX_solveByTwoTrees
  refine fs_clearQueue (fun qd' hq => ?_)
  refine pk_loop (fun n i (z : (Nat → Int32) × (Nat → Int32)) => wX_solveByTwoTrees_6 post pr (nI s) (nI t) ed fl 0 0 oc n (nI i) fr tp ro et lf fe ne lv cu z.1 ex hg qu qd' pa gn nd z.2 og)
    (fun i z => ∀ j, j < i → z.2 j = nI (if j = s then 1 else if j = t then 2 else 0)) 16 0 (cb, tr) (by omega) (fun j hj => absurd hj (by omega)) ?_ ?_
  · rintro n ⟨cb', tr'⟩ h
    have h' : ∀ j, j < 16 → tr' j = nI (if j = s then 1 else if j = t then 2 else 0) := h
    refine pk_le 16 16 (fun _ => ?_) (fun z => absurd z (by omega))
    refine fs_enq (i := 0) (k := 0) hs rfl rfl rfl (by omega) (hq s hs) (fs_enq (i := 0) (k := 1) ht rfl rfl rfl (by omega) (by rw [pk_un (Ne.symm hst)]; exact hq t ht) ?_)
    refine H cb' _ _ tr' ?_ ?_ ?_ ?_ ?_ ?_
    · rw [h' s hs, if_pos rfl]; rfl
    · rw [h' t ht, if_neg (Ne.symm hst), if_pos rfl]; rfl
    · intro j hj a b
      rw [h' j hj, if_neg a, if_neg b]; rfl
    · rw [pk_un (by omega), pk_us]
    · rw [pk_us]
    · intro j hj a b
      rw [pk_un b, pk_un a]
      exact hq j hj
  · rintro n i ⟨cb', tr'⟩ hi h hw
    have ci : (nI i).toNatClampNeg = i := nI_clamp (by omega)
    have ii : vp_in (nI i) 16 := pk_in i 16 hi
    have go : ∀ q : Nat, q < 3 → q = (if i = s then 1 else if i = t then 2 else 0) → wX_solveByTwoTrees_42 post (wX_solveByTwoTrees_6 post pr (nI s) (nI t) ed fl 0 0 oc n) (nI i) (nI q) (nI i) pr (nI s) (nI t) ed fl 0 0 oc fr tp ro et lf fe ne lv cu cb' ex hg qu qd' pa gn nd tr' og := by
      intro q hq3 hq4
      refine ⟨ii, nm_r (show upd tr' (nI i).toNatClampNeg (nI q).toInt8.toInt32 = upd tr' i (nI q) by rw [ci, fs_b (by omega)]) ⟨ii, nm_e (nm_r (nI_1 i) (hw (_, _) ?_))⟩⟩
      exact fs_eta (f := fun j => nI (if j = s then 1 else if j = t then 2 else 0)) h (by rw [hq4])
    refine pk_le 16 i (fun z => absurd z (by omega)) (fun _ => pk_eq i s (fun z => go 1 (by omega) (by rw [if_pos z])) (fun z => pk_eq i t (fun y => go 2 (by omega) (by rw [if_neg z, if_pos y])) (fun y => go 0 (by omega) (by rw [if_neg z, if_neg y]))))
/-- a round in which the first node of the queue finds nothing -/
theorem fs_t_no {post : St2 → Prop} {pr so si ed fl qf qs oc : Int32} {fr tp ro et lf fe ne lv cu cb ex hg qu qd pa gn nd tr og : Nat → Int32} {n i c v k r : Nat} (hv : v < 16) (hk : (k = 0 ∧ tr v = 1) ∨ (k = 1 ∧ tr v = 2)) (hc : fs_cl k v et lf fe ne) (hf : qf = nI i) (hq : qs = nI (c + 1)) (hi : i < 63) (hc6 : c < 60) (hu : qu i = nI v) (hr : r < 100000)
    (H : wX_solveByTwoTrees_80 post n (nI (r + 1)) pr so si ed fl (nI (i + 1)) (nI c) oc fr tp ro et lf fe ne lv cu cb ex hg qu (upd qd v 0) pa gn nd tr og) : wX_solveByTwoTrees_80 post (n + 1) (nI r) pr so si ed fl qf qs oc fr tp ro et lf fe ne lv cu cb ex hg qu qd pa gn nd tr og := by
  subst hf hq
  refine br_f (nI_ge (b := 100000) hr (by omega)) (br_f (nI_nle (by omega) (by omega)) ⟨pk_in i 64 (by omega), nm_r (show qu (nI i).toNatClampNeg = nI v by rw [nI_clamp (by omega)]; exact hu) ⟨pk_in v 16 hv, br_f ?_ (fs_grow_no hv hk hc (br_t (by decide) (fs_deq hv rfl rfl hi hu (nm_r (nI_1 r) H))))⟩⟩)
  rw [nI_clamp (by omega)]
  rcases hk with ⟨_, t0⟩ | ⟨_, t0⟩
  · rw [t0]; decide
  · rw [t0]; decide
theorem fs_t_take {post : St2 → Prop} {pr so si ed fl qf qs oc : Int32} {fr tp ro et lf fe ne lv cu cb ex hg qu qd pa gn nd tr og : Nat → Int32} {n i c v k r e x : Nat} (hv : v < 16) (hk : (k = 0 ∧ tr v = 1) ∨ (k = 1 ∧ tr v = 2)) (he : e < 56) (hx : x < 16) (hxv : x ≠ v) (h1 : fe v = nI e) (h2 : ne e = -1) (h3 : et e = nI x) (h4 : ¬ lf (e ^^^ k) ≤ 0) (h5 : tr x = 0)
    (hf : qf = nI i) (hq : qs = nI (c + 1)) (hi : i + (c + 1) < 63) (hu : qu i = nI v) (hr : r < 100000) (hd : qd x = 0)
    (H : ∀ (cb' : Nat → Int32), wX_solveByTwoTrees_80 post n (nI (r + 1)) pr so si ed fl (nI (i + 1)) (nI (c + 1)) oc fr tp ro et lf fe ne lv cu cb' ex hg (upd qu (i + (c + 1)) (nI x)) (upd (upd qd x 1) v 0) pa gn nd (upd tr x (tr v)) og) : wX_solveByTwoTrees_80 post (n + 1) (nI r) pr so si ed fl qf qs oc fr tp ro et lf fe ne lv cu cb ex hg qu qd pa gn nd tr og := by
  subst hf hq
  refine br_f (nI_ge (b := 100000) hr (by omega)) (br_f (nI_nle (by omega) (by omega)) ⟨pk_in i 64 (by omega), nm_r (show qu (nI i).toNatClampNeg = nI v by rw [nI_clamp (by omega)]; exact hu) ⟨pk_in v 16 hv, br_f ?_ (fs_grow_take hv hk he hx hxv h1 h2 h3 h4 h5 rfl rfl (by omega) hd (fun cb' => br_t (by decide) (fs_deq hv rfl rfl (by omega) (by rw [pk_un (by omega)]; exact hu) (nm_r (nI_1 r) (H cb')))))⟩⟩)
  rw [nI_clamp (by omega)]
  rcases hk with ⟨_, t0⟩ | ⟨_, t0⟩
  · rw [t0]; decide
  · rw [t0]; decide
theorem fs_t_end {post : St2 → Prop} {pr so si ed fl qf qs oc : Int32} {fr tp ro et lf fe ne lv cu cb ex hg qu qd pa gn nd tr og : Nat → Int32} {n r : Nat} (hq : qs = nI 0) (hr : r < 100000) (H : post (pr, so, si, ed, fl, qf, qs, oc, fr, tp, ro, et, lf, fe, ne, lv, cu, cb, ex, hg, qu, qd, pa, gn, nd, tr, og)) : wX_solveByTwoTrees_80 post (n + 1) (nI r) pr so si ed fl qf qs oc fr tp ro et lf fe ne lv cu cb ex hg qu qd pa gn nd tr og := by
  subst hq
  exact br_f (nI_ge (b := 100000) hr (by omega)) (br_t (by decide) H)
/-- neither tree grows -/
theorem fs_e6_c {post : St2 → Prop} {pr so si ed fl qf qs oc : Int32} {fr tp ro et lf fe ne lv cu cb ex hg qu qd pa gn nd tr og : Nat → Int32} {s t : Nat} (hs : s < 16) (ht : t < 16) (hst : s ≠ t) (hso : so = nI s) (hsi : si = nI t) (c1 : fs_cl 0 s et lf fe ne) (c2 : fs_cl 1 t et lf fe ne)
    (H : fs_R post pr so si ed fr tp ro et fe ne (fun f l => f = fl ∧ l = lf)) : wpX_solveByTwoTrees post (pr, so, si, ed, fl, qf, qs, oc, fr, tp, ro, et, lf, fe, ne, lv, cu, cb, ex, hg, qu, qd, pa, gn, nd, tr, og) := by
  refine fs_e6_init hs ht hst hso hsi (fun cb' qu' qd' tr' t1 t2 t3 q1 q2 q3 => ⟨3, ?_⟩)
  exact fs_t_no (i := 0) (c := 1) (r := 0) hs (Or.inl ⟨rfl, t1⟩) c1 rfl rfl (by omega) (by omega) q1 (by omega) (fs_t_no (i := 1) (c := 0) (r := 1) ht (Or.inr ⟨rfl, t2⟩) c2 rfl rfl (by omega) (by omega) q2 (by omega) (fs_t_end rfl (by omega) (H _ _ _ _ _ _ _ _ _ _ _ _ _ _ _ _ _ ⟨rfl, rfl⟩)))
/-- the source's tree takes b -/
theorem fs_e6_a {post : St2 → Prop} {pr so si ed fl qf qs oc : Int32} {fr tp ro et lf fe ne lv cu cb ex hg qu qd pa gn nd tr og : Nat → Int32} {s t b : Nat} (hs : s < 16) (ht : t < 16) (hst : s ≠ t) (hso : so = nI s) (hsi : si = nI t) (hb : b < 16) (hbs : b ≠ s) (hbt : b ≠ t) (h1 : fe s = nI 0) (h2 : ne 0 = -1) (h3 : et 0 = nI b) (h4 : ¬ lf 0 ≤ 0) (c2 : fs_cl 1 t et lf fe ne) (c3 : fs_cl 0 b et lf fe ne)
    (H : fs_R post pr so si ed fr tp ro et fe ne (fun f l => f = fl ∧ l = lf)) : wpX_solveByTwoTrees post (pr, so, si, ed, fl, qf, qs, oc, fr, tp, ro, et, lf, fe, ne, lv, cu, cb, ex, hg, qu, qd, pa, gn, nd, tr, og) := by
  refine fs_e6_init hs ht hst hso hsi (fun cb' qu' qd' tr' t1 t2 t3 q1 q2 q3 => ⟨4, ?_⟩)
  refine fs_t_take (i := 0) (c := 1) (r := 0) (k := 0) (e := 0) hs (Or.inl ⟨rfl, t1⟩) (by omega) hb hbs h1 h2 h3 h4 (t3 b hb hbs hbt) rfl rfl (by omega) q1 (by omega) (q3 b hb hbs hbt) (fun cb2 => ?_)
  refine fs_t_no (i := 1) (c := 1) (r := 1) ht (Or.inr ⟨rfl, by rw [pk_un (Ne.symm hbt)]; exact t2⟩) c2 rfl rfl (by omega) (by omega) (by rw [pk_un (by omega)]; exact q2) (by omega) ?_
  exact fs_t_no (i := 2) (c := 0) (r := 2) hb (Or.inl ⟨rfl, by rw [pk_us]; exact t1⟩) c3 rfl rfl (by omega) (by omega) pk_us (by omega) (fs_t_end rfl (by omega) (H _ _ _ _ _ _ _ _ _ _ _ _ _ _ _ _ _ ⟨rfl, rfl⟩))
/-- the sink's tree takes a -/
theorem fs_e6_b {post : St2 → Prop} {pr so si ed fl qf qs oc : Int32} {fr tp ro et lf fe ne lv cu cb ex hg qu qd pa gn nd tr og : Nat → Int32} {s t a : Nat} (hs : s < 16) (ht : t < 16) (hst : s ≠ t) (hso : so = nI s) (hsi : si = nI t) (ha : a < 16) (has : a ≠ s) (hat : a ≠ t) (h1 : fe t = nI 1) (h2 : ne 1 = -1) (h3 : et 1 = nI a) (h4 : ¬ lf 0 ≤ 0) (c1 : fs_cl 0 s et lf fe ne) (c3 : fs_cl 1 a et lf fe ne)
    (H : fs_R post pr so si ed fr tp ro et fe ne (fun f l => f = fl ∧ l = lf)) : wpX_solveByTwoTrees post (pr, so, si, ed, fl, qf, qs, oc, fr, tp, ro, et, lf, fe, ne, lv, cu, cb, ex, hg, qu, qd, pa, gn, nd, tr, og) := by
  refine fs_e6_init hs ht hst hso hsi (fun cb' qu' qd' tr' t1 t2 t3 q1 q2 q3 => ⟨4, ?_⟩)
  refine fs_t_no (i := 0) (c := 1) (r := 0) hs (Or.inl ⟨rfl, t1⟩) c1 rfl rfl (by omega) (by omega) q1 (by omega) ?_
  refine fs_t_take (i := 1) (c := 0) (r := 1) (k := 1) (e := 1) ht (Or.inr ⟨rfl, t2⟩) (by omega) ha hat h1 h2 h3 h4 (t3 a ha has hat) rfl rfl (by omega) q2 (by omega) (by rw [pk_un has]; exact q3 a ha has hat) (fun cb2 => ?_)
  exact fs_t_no (i := 2) (c := 0) (r := 2) ha (Or.inr ⟨rfl, by rw [pk_us]; exact t2⟩) c3 rfl rfl (by omega) (by omega) pk_us (by omega) (fs_t_end rfl (by omega) (H _ _ _ _ _ _ _ _ _ _ _ _ _ _ _ _ _ ⟨rfl, rfl⟩))
theorem fs_e6_live {post : St2 → Prop} {pr so si ed fl qf qs oc : Int32} {fr tp ro et lf fe ne lv cu cb ex hg qu qd pa gn nd tr og : Nat → Int32} {s t w : Nat} (hs : s < 16) (ht : t < 16) (hst : s ≠ t) (hso : so = nI s) (hsi : si = nI t) (hw : w ≤ 99) (hw0 : 0 < w) (hn : fs_lv s t w et lf fe ne)
    (H : fs_R post pr so si ed fr tp ro et fe ne (fun f l => f = fl + nI w ∧ l 0 = 0 ∧ l 1 = nI w)) : wpX_solveByTwoTrees post (pr, so, si, ed, fl, qf, qs, oc, fr, tp, ro, et, lf, fe, ne, lv, cu, cb, ex, hg, qu, qd, pa, gn, nd, tr, og) := by
  have g0 := fs_mv00 hn.2.2.2.2.2.2.1
  have g1 := fs_mv01 (w := w) hn.2.2.2.2.2.2.2
  refine fs_e6_init hs ht hst hso hsi (fun cb' qu' qd' tr' t1 t2 t3 q1 q2 q3 => ⟨4, ?_⟩)
  refine br_f (by decide) (br_f (by decide) ⟨pk_in 0 64 (by omega), nm_r (show qu' (nI 0).toNatClampNeg = nI s by rw [nI_clamp (by omega)]; exact q1) ⟨pk_in s 16 hs, br_f (by rw [nI_clamp (by omega), t1]; decide) (fs_grow_hit hs ht hn hw hw0 t1 t2 (br_f (by decide) (fs_bridge hso hsi hn (fs_adopt rfl (nm_r (nI_1 0) ?_)))))⟩⟩)
  obtain ⟨h1, h2, h3, h4, h5, h6, h7, h8⟩ := hn
  refine fs_t_no (i := 0) (c := 1) (r := 1) (k := 0) hs (Or.inl ⟨rfl, t1⟩) (Or.inr ⟨0, t, by omega, ht, h1, h2, h3, ?_⟩) rfl rfl (by omega) (by omega) q1 (by omega) ?_
  · show fs_mv lf 0 (nI w) 0 ≤ 0
    rw [g0]; decide
  refine fs_t_no (i := 1) (c := 0) (r := 2) (k := 1) ht (Or.inr ⟨rfl, t2⟩) (Or.inr ⟨1, s, by omega, hs, h4, h5, h6, ?_⟩) rfl rfl (by omega) (by omega) q2 (by omega) ?_
  · show fs_mv lf 0 (nI w) 0 ≤ 0
    rw [g0]; decide
  exact fs_t_end rfl (by omega) (H _ _ _ _ _ _ _ _ _ _ _ _ _ _ _ _ _ ⟨rfl, g0, g1⟩)
end
section
/-! engines together, sets, the class's own calls -/
theorem fs_solve {post : St2 → Prop} {pr so si ed fl qf qs oc : Int32} {fr tp ro et lf fe ne lv cu cb ex hg qu qd pa gn nd tr og : Nat → Int32} {g : Nat} {G : Int32 → (Nat → Int32) → Prop} (hg7 : g < 7) (H : fs_R post pr so si ed fr tp ro et fe ne G)
    (h0 : g = 0 → ∀ Q, fs_R Q pr so si ed fr tp ro et fe ne G → wpX_solveByShortestWays Q (pr, so, si, ed, fl, qf, qs, oc, fr, tp, ro, et, lf, fe, ne, lv, cu, cb, ex, hg, qu, qd, pa, gn, nd, tr, og))
    (h1 : g = 1 → ∀ Q, fs_R Q pr so si ed fr tp ro et fe ne G → wpX_solveByLevels Q (pr, so, si, ed, fl, qf, qs, oc, fr, tp, ro, et, lf, fe, ne, lv, cu, cb, ex, hg, qu, qd, pa, gn, nd, tr, og))
    (h2 : g = 2 → ∀ Q, fs_R Q pr so si ed fr tp ro et fe ne G → wpX_solveByPushingInTurn Q (pr, so, si, ed, fl, qf, qs, oc, fr, tp, ro, et, lf, fe, ne, lv, cu, cb, ex, hg, qu, qd, pa, gn, nd, tr, og))
    (h3 : g = 3 → ∀ Q, fs_R Q pr so si ed fr tp ro et fe ne G → wpX_solveByPushingHighest Q (pr, so, si, ed, fl, qf, qs, oc, fr, tp, ro, et, lf, fe, ne, lv, cu, cb, ex, hg, qu, qd, pa, gn, nd, tr, og))
    (h4 : g = 4 → ∀ Q, fs_R Q pr so si ed fr tp ro et fe ne G → wpX_solveByHalves Q (pr, so, si, ed, fl, qf, qs, oc, fr, tp, ro, et, lf, fe, ne, lv, cu, cb, ex, hg, qu, qd, pa, gn, nd, tr, og))
    (h5 : g = 5 → ∀ Q, fs_R Q pr so si ed fr tp ro et fe ne G → wpX_solveByWeakestNodes Q (pr, so, si, ed, fl, qf, qs, oc, fr, tp, ro, et, lf, fe, ne, lv, cu, cb, ex, hg, qu, qd, pa, gn, nd, tr, og))
    (h6 : g = 6 → ∀ Q, fs_R Q pr so si ed fr tp ro et fe ne G → wpX_solveByTwoTrees Q (pr, so, si, ed, fl, qf, qs, oc, fr, tp, ro, et, lf, fe, ne, lv, cu, cb, ex, hg, qu, qd, pa, gn, nd, tr, og)) : wpX_solve post (pr, so, si, ed, fl, qf, qs, oc, fr, tp, ro, et, lf, fe, ne, lv, cu, cb, ex, hg, qu, qd, pa, gn, nd, tr, og) (nI g) := by
  unfold wpX_solve
  refine br_f (nI_pos (by omega)) (pk_lt 5 g (fun z => h6 (by omega) _ (fun fl qf qs oc lf lv cu cb ex hg qu qd pa gn nd tr og h => H fl qf qs oc lf lv cu cb ex hg qu qd pa gn nd tr og h)) (fun _ => ?_))
  refine pk_eq g 0 (fun z => h0 z _ (fun fl qf qs oc lf lv cu cb ex hg qu qd pa gn nd tr og h => H fl qf qs oc lf lv cu cb ex hg qu qd pa gn nd tr og h)) (fun z0 => ?_)
  refine pk_eq g 1 (fun z => h1 z _ (fun fl qf qs oc lf lv cu cb ex hg qu qd pa gn nd tr og h => H fl qf qs oc lf lv cu cb ex hg qu qd pa gn nd tr og h)) (fun z1 => ?_)
  refine pk_eq g 2 (fun z => h2 z _ (fun fl qf qs oc lf lv cu cb ex hg qu qd pa gn nd tr og h => H fl qf qs oc lf lv cu cb ex hg qu qd pa gn nd tr og h)) (fun z2 => ?_)
  refine pk_eq g 3 (fun z => h3 z _ (fun fl qf qs oc lf lv cu cb ex hg qu qd pa gn nd tr og h => H fl qf qs oc lf lv cu cb ex hg qu qd pa gn nd tr og h)) (fun z3 => ?_)
  refine pk_eq g 4 (fun z => h4 z _ (fun fl qf qs oc lf lv cu cb ex hg qu qd pa gn nd tr og h => H fl qf qs oc lf lv cu cb ex hg qu qd pa gn nd tr og h)) (fun z4 => ?_)
  exact pk_eq g 5 (fun z => h5 z _ (fun fl qf qs oc lf lv cu cb ex hg qu qd pa gn nd tr og h => H fl qf qs oc lf lv cu cb ex hg qu qd pa gn nd tr og h)) (fun z5 => trivial)
theorem fs_Rw {post : St2 → Prop} {pr so si ed : Int32} {fr tp ro et fe ne : Nat → Int32} {G G' : Int32 → (Nat → Int32) → Prop} (H : fs_R post pr so si ed fr tp ro et fe ne G) (h : ∀ f l, G' f l → G f l) : fs_R post pr so si ed fr tp ro et fe ne G' :=
  fun fl qf qs oc lf lv cu cb ex hg qu qd pa gn nd tr og z => H fl qf qs oc lf lv cu cb ex hg qu qd pa gn nd tr og (h _ _ z)
/-- what is left of flow and rooms when nothing flows -/
def fs_Gd (g : Nat) (lf : Nat → Int32) (f : Int32) (l : Nat → Int32) : Prop := f = 0 ∧ (g ≠ 3 → l 0 = lf 0 ∧ l 1 = lf 1)
theorem fs_Gd_of {g : Nat} {lf : Nat → Int32} {fl : Int32} (hf : fl = 0) : ∀ (f : Int32) (l : Nat → Int32), (f = fl ∧ l = lf) → fs_Gd g lf f l := by
  rintro f l ⟨rfl, rfl⟩
  exact ⟨hf, fun _ => ⟨rfl, rfl⟩⟩
theorem fs_solve_none {post : St2 → Prop} {pr so si ed fl qf qs oc : Int32} {fr tp ro et lf fe ne lv cu cb ex hg qu qd pa gn nd tr og : Nat → Int32} {g s t : Nat} (hg7 : g < 7) (hs : s < 16) (ht : t < 16) (hst : s ≠ t) (hso : so = nI s) (hsi : si = nI t) (hfl : fl = 0) (hn : ∀ j, j < 16 → fe j = -1)
    (H : fs_R post pr so si ed fr tp ro et fe ne (fs_Gd g lf)) : wpX_solve post (pr, so, si, ed, fl, qf, qs, oc, fr, tp, ro, et, lf, fe, ne, lv, cu, cb, ex, hg, qu, qd, pa, gn, nd, tr, og) (nI g) := by
  have d : ∀ L : Int32, fs_dead s t L et lf fe ne := fun L => Or.inl (Or.inl (hn s hs))
  refine fs_solve hg7 H (fun _ Q h => fs_e0_dead hs ht hst hso hsi (d 1) (fs_Rw h (fs_Gd_of hfl))) (fun _ Q h => fs_e1_dead hs ht hst hso hsi (d 1) (fs_Rw h (fs_Gd_of hfl)))
    (fun _ Q h => fs_e2_none hs ht hso hsi (hn s hs) (fs_Rw h (fun f l z => fs_Gd_of rfl f l z))) (fun z Q h => fs_e3_none hs ht hso hsi (hn s hs) (fs_Rw h (fun f l y => ⟨y, fun x => absurd z x⟩)))
    (fun _ Q h => fs_e4_dead hs ht hst hso hsi (fun L _ _ => d (nI L)) (fs_Rw h (fs_Gd_of hfl))) (fun _ Q h => fs_e5_dead hs ht hst hso hsi (d 1) (fs_Rw h (fs_Gd_of hfl)))
    (fun _ Q h => fs_e6_c hs ht hst hso hsi (Or.inl (hn s hs)) (Or.inl (hn t ht)) (fs_Rw h (fs_Gd_of hfl)))
/-- one arc from a to b with room r -/
def fs_Net (a b r : Nat) (et lf fe ne : Nat → Int32) : Prop := et 0 = nI b ∧ et 1 = nI a ∧ lf 0 = nI r ∧ lf 1 = 0 ∧ ne 0 = -1 ∧ ne 1 = -1 ∧ fe a = nI 0 ∧ fe b = nI 1 ∧ (∀ j, j < 16 → j ≠ a → j ≠ b → fe j = -1)
theorem fs_le0 : (0 : Int32) ≤ 0 := by decide
theorem fs_Net_dead {a b r s t L : Nat} {et lf fe ne : Nat → Int32} (ha : a < 8) (hb : b < 8) (hab : a ≠ b) (hs : s < 8) (hr : r ≤ 99) (hn : fs_Net a b r et lf fe ne) (hd : ¬ (s = a ∧ t = b) ∨ r = 0) (hL : 0 < L) (hL2 : L ≤ 64) : fs_dead s t (nI L) et lf fe ne := by
  obtain ⟨h1, h2, h3, h4, h5, h6, h7, h8, h9⟩ := hn
  by_cases z : s = a
  · by_cases y : r < L
    · exact Or.inl (Or.inr ⟨0, b, by omega, by omega, by rw [z]; exact h7, h5, h1, by rw [h3]; exact nI_lt y (by omega)⟩)
    · have hbt : b ≠ t := by
        rcases hd with x | x
        · exact fun q => x ⟨z, q.symm⟩
        · omega
      exact Or.inr ⟨b, hbt, by omega, by omega, by rw [z]; exact h7, h5, h1, by rw [h3]; exact nI_nlt (by omega) (by omega), h8, h6, by rw [z]; exact h2⟩
  · by_cases y : s = b
    · exact Or.inl (Or.inr ⟨1, a, by omega, by omega, by rw [y]; exact h8, h6, h2, by rw [h4]; exact nI_lt (a := 0) hL (by omega)⟩)
    · exact Or.inl (Or.inl (h9 s (by omega) z y))
theorem fs_Net_cl0 {a b r s : Nat} {et lf fe ne : Nat → Int32} (ha : a < 8) (hb : b < 8) (hs : s < 8) (hn : fs_Net a b r et lf fe ne) (hc : s ≠ a ∨ r = 0) : fs_cl 0 s et lf fe ne := by
  obtain ⟨h1, h2, h3, h4, h5, h6, h7, h8, h9⟩ := hn
  by_cases z : s = a
  · refine Or.inr ⟨0, b, by omega, by omega, by rw [z]; exact h7, h5, h1, ?_⟩
    show lf 0 ≤ 0
    rw [h3, hc.resolve_left (fun q => q z)]; decide
  · by_cases y : s = b
    · refine Or.inr ⟨1, a, by omega, by omega, by rw [y]; exact h8, h6, h2, ?_⟩
      show lf 1 ≤ 0
      rw [h4]; decide
    · exact Or.inl (h9 s (by omega) z y)
theorem fs_Net_cl1 {a b r t : Nat} {et lf fe ne : Nat → Int32} (ha : a < 8) (hb : b < 8) (ht : t < 8) (hn : fs_Net a b r et lf fe ne) (hc : t ≠ b ∨ r = 0) : fs_cl 1 t et lf fe ne := by
  obtain ⟨h1, h2, h3, h4, h5, h6, h7, h8, h9⟩ := hn
  by_cases z : t = a
  · refine Or.inr ⟨0, b, by omega, by omega, by rw [z]; exact h7, h5, h1, ?_⟩
    show lf 1 ≤ 0
    rw [h4]; decide
  · by_cases y : t = b
    · refine Or.inr ⟨1, a, by omega, by omega, by rw [y]; exact h8, h6, h2, ?_⟩
      show lf 0 ≤ 0
      rw [h3, hc.resolve_left (fun q => q y)]; decide
    · exact Or.inl (h9 t (by omega) z y)
theorem fs_Gd_mv {g e : Nat} {lf : Nat → Int32} : ∀ (f : Int32) (l : Nat → Int32), (f = nI 0 ∧ l = fs_mv lf e (nI 0)) → fs_Gd g lf f l := by
  rintro f l ⟨rfl, rfl⟩
  exact ⟨rfl, fun _ => ⟨fs_mv0 _ _ _, fs_mv0 _ _ _⟩⟩
theorem fs_solve_dead {post : St2 → Prop} {pr so si ed fl qf qs oc : Int32} {fr tp ro et lf fe ne lv cu cb ex hg qu qd pa gn nd tr og : Nat → Int32} {g s t a b r : Nat} (hg7 : g < 7) (hs : s < 8) (ht : t < 8) (hst : s ≠ t) (hso : so = nI s) (hsi : si = nI t) (hfl : fl = 0) (ha : a < 8) (hb : b < 8) (hab : a ≠ b) (hr : r ≤ 99) (hn : fs_Net a b r et lf fe ne) (hd : ¬ (s = a ∧ t = b) ∨ r = 0)
    (H : fs_R post pr so si ed fr tp ro et fe ne (fs_Gd g lf)) : wpX_solve post (pr, so, si, ed, fl, qf, qs, oc, fr, tp, ro, et, lf, fe, ne, lv, cu, cb, ex, hg, qu, qd, pa, gn, nd, tr, og) (nI g) := by
  have d : ∀ L : Nat, 0 < L → L ≤ 64 → fs_dead s t (nI L) et lf fe ne := fun L hL hL2 => fs_Net_dead ha hb hab hs hr hn hd hL hL2
  have d1 : fs_dead s t 1 et lf fe ne := d 1 (by omega) (by omega)
  have hn' := hn
  obtain ⟨h1, h2, h3, h4, h5, h6, h7, h8, h9⟩ := hn'
  refine fs_solve hg7 H (fun _ Q h => fs_e0_dead (by omega) (by omega) hst hso hsi d1 (fs_Rw h (fs_Gd_of hfl))) (fun _ Q h => fs_e1_dead (by omega) (by omega) hst hso hsi d1 (fs_Rw h (fs_Gd_of hfl)))
    (fun _ Q h => ?_) (fun g3 Q h => ?_)
    (fun _ Q h => fs_e4_dead (by omega) (by omega) hst hso hsi d (fs_Rw h (fs_Gd_of hfl))) (fun _ Q h => fs_e5_dead (by omega) (by omega) hst hso hsi d1 (fs_Rw h (fs_Gd_of hfl)))
    (fun _ Q h => ?_)
  · by_cases z : s = a
    · by_cases y : r = 0
      · exact fs_e2_q (e := 0) (v := b) (w := 0) (by omega) (by omega) hst hso hsi (by omega) (by omega) (by omega) (by rw [z]; exact h7) h5 h1 (by rw [h3, y]) (by omega) (Or.inl rfl) (fs_Rw h fs_Gd_mv)
      · have hbt : b ≠ t := by
          rcases hd with x | x
          · exact fun q => x ⟨z, q.symm⟩
          · omega
        exact fs_e2_e (b := b) (w := r) (by omega) (by omega) hst hso hsi (by omega) (by omega) hbt (by rw [z]; exact h7) h5 h1 h8 h6 (by rw [z]; exact h2) h3 h4 hr (by omega) (fs_Rw h (fun f l x => ⟨x.1, fun _ => ⟨x.2.1.trans h3.symm, x.2.2.trans h4.symm⟩⟩))
    · by_cases y : s = b
      · exact fs_e2_q (e := 1) (v := a) (w := 0) (by omega) (by omega) hst hso hsi (by omega) (by omega) (by omega) (by rw [y]; exact h8) h6 h2 h4 (by omega) (Or.inl rfl) (fs_Rw h fs_Gd_mv)
      · exact fs_e2_none (by omega) (by omega) hso hsi (h9 s (by omega) z y) (fs_Rw h (fun f l z => fs_Gd_of rfl f l z))
  · by_cases z : s = a
    · by_cases y : r = 0
      · exact fs_e3_quiet (e := 0) (v := b) (w := 0) (by omega) (by omega) hst hso hsi (by omega) (by omega) (by omega) (by rw [z]; exact h7) h5 h1 (by rw [h3, y]) (by omega) (Or.inl rfl) (fs_Rw h (fun f l x => ⟨x, fun q => absurd g3 q⟩))
      · have hbt : b ≠ t := by
          rcases hd with x | x
          · exact fun q => x ⟨z, q.symm⟩
          · omega
        refine fs_e3_back (e := 0) (v := b) (w := r) (m := 2) (by omega) (by omega) hst hso hsi (by omega) (by omega) (by omega) hbt (by rw [z]; exact h7) h5 h1 h3 hr (by omega) (fs_WF2 (f := a) (b := b) (by omega) (by omega) h1 h2 h5 h6 h7 h8 h9) (fun e he => ?_) (fs_Rw h (fun f l x => ⟨x, fun q => absurd g3 q⟩))
        rcases (show e = 0 ∨ e = 1 by omega) with rfl | rfl
        · rw [h1, nI_eq (by omega) (by omega)]; exact hbt
        · rw [h2, nI_eq (by omega) (by omega)]; omega
    · by_cases y : s = b
      · exact fs_e3_quiet (e := 1) (v := a) (w := 0) (by omega) (by omega) hst hso hsi (by omega) (by omega) (by omega) (by rw [y]; exact h8) h6 h2 h4 (by omega) (Or.inl rfl) (fs_Rw h (fun f l x => ⟨x, fun q => absurd g3 q⟩))
      · exact fs_e3_none (by omega) (by omega) hso hsi (h9 s (by omega) z y) (fs_Rw h (fun f l x => ⟨x, fun q => absurd g3 q⟩))
  · by_cases y : r = 0
    · exact fs_e6_c (by omega) (by omega) hst hso hsi (fs_Net_cl0 ha hb hs hn (Or.inr y)) (fs_Net_cl1 ha hb ht hn (Or.inr y)) (fs_Rw h (fs_Gd_of hfl))
    · have r0 : ¬ lf 0 ≤ 0 := by rw [h3]; exact nI_nle (by omega) (by omega)
      have hd' : ¬ (s = a ∧ t = b) := hd.resolve_right y
      by_cases z : s = a
      · exact fs_e6_a (b := b) (by omega) (by omega) hst hso hsi (by omega) (by omega) (by omega) (by rw [z]; exact h7) h5 h1 r0 (fs_Net_cl1 ha hb ht hn (Or.inl (by omega))) (fs_Net_cl0 ha hb hb hn (Or.inl (Ne.symm hab))) (fs_Rw h (fs_Gd_of hfl))
      · by_cases x : t = b
        · exact fs_e6_b (a := a) (by omega) (by omega) hst hso hsi (by omega) (by omega) (by omega) (by rw [x]; exact h8) h6 h2 r0 (fs_Net_cl0 ha hb hs hn (Or.inl z)) (fs_Net_cl1 ha hb ha hn (Or.inl hab)) (fs_Rw h (fs_Gd_of hfl))
        · exact fs_e6_c (by omega) (by omega) hst hso hsi (fs_Net_cl0 ha hb hs hn (Or.inl z)) (fs_Net_cl1 ha hb ht hn (Or.inl x)) (fs_Rw h (fs_Gd_of hfl))
def fs_Gl (g r : Nat) (f : Int32) (l : Nat → Int32) : Prop := f = nI r ∧ (g ≠ 3 → l 0 = 0 ∧ l 1 = nI r)
theorem fs_Gl_of {g r : Nat} {fl : Int32} (hf : fl = 0) : ∀ (f : Int32) (l : Nat → Int32), (f = fl + nI r ∧ l 0 = 0 ∧ l 1 = nI r) → fs_Gl g r f l := by
  rintro f l ⟨rfl, h1, h2⟩
  refine ⟨?_, fun _ => ⟨h1, h2⟩⟩
  rw [hf]
  exact (nI_add 0 r).trans (by rw [Nat.zero_add])
theorem fs_solve_live {post : St2 → Prop} {pr so si ed fl qf qs oc : Int32} {fr tp ro et lf fe ne lv cu cb ex hg qu qd pa gn nd tr og : Nat → Int32} {g s t r : Nat} (hg7 : g < 7) (hs : s < 8) (ht : t < 8) (hst : s ≠ t) (hso : so = nI s) (hsi : si = nI t) (hfl : fl = 0) (hr : r ≤ 99) (hr0 : 0 < r) (hn : fs_Net s t r et lf fe ne)
    (H : fs_R post pr so si ed fr tp ro et fe ne (fs_Gl g r)) : wpX_solve post (pr, so, si, ed, fl, qf, qs, oc, fr, tp, ro, et, lf, fe, ne, lv, cu, cb, ex, hg, qu, qd, pa, gn, nd, tr, og) (nI g) := by
  obtain ⟨h1, h2, h3, h4, h5, h6, h7, h8, h9⟩ := hn
  have v : fs_lv s t r et lf fe ne := ⟨h7, h5, h1, h8, h6, h2, h3, h4⟩
  refine fs_solve hg7 H (fun _ Q h => fs_e0_live (by omega) (by omega) hst hso hsi hr hr0 v (fs_Rw h (fs_Gl_of hfl))) (fun _ Q h => fs_e1_live (by omega) (by omega) hst hso hsi hr hr0 v (fs_Rw h (fs_Gl_of hfl)))
    (fun _ Q h => fs_e2_q (e := 0) (v := t) (w := r) (by omega) (by omega) hst hso hsi (by omega) (by omega) (by omega) h7 h5 h1 h3 hr (Or.inr rfl) (fs_Rw h (fun f l x => ⟨x.1, fun _ => ⟨by rw [x.2]; exact fs_mv00 h3, by rw [x.2]; exact fs_mv01 h4⟩⟩)))
    (fun g3 Q h => fs_e3_quiet (e := 0) (v := t) (w := r) (by omega) (by omega) hst hso hsi (by omega) (by omega) (by omega) h7 h5 h1 h3 hr (Or.inr rfl) (fs_Rw h (fun f l x => ⟨x, fun q => absurd g3 q⟩)))
    (fun _ Q h => fs_e4_live (by omega) (by omega) hst hso hsi hr hr0 v (fs_Rw h (fs_Gl_of hfl))) (fun _ Q h => fs_e5_live (by omega) (by omega) hst hso hsi hr hr0 v (fs_Rw h (fs_Gl_of hfl)))
    (fun _ Q h => fs_e6_live (by omega) (by omega) hst hso hsi hr hr0 v (fs_Rw h (fs_Gl_of hfl)))
theorem fs_best_n {post : Int32 → St2 → Prop} {pr so si ed fl qf qs oc : Int32} {fr tp ro et lf fe ne lv cu cb ex hg qu qd pa gn nd tr og : Nat → Int32} {g s t : Nat} {k : Int32} (hg7 : g < 7) (hs : s < 8) (ht : t < 8) (hst : s ≠ t) (hp : pr = 0) (hk : k < 2)
    (H : ∀ (fl' qf' qs' oc' : Int32) (et' lf' fe' ne' lv' cu' cb' ex' hg' qu' qd' pa' gn' nd' tr' og' : Nat → Int32), fl' = 0 → post fl' (pr, nI s, nI t, 0, fl', qf', qs', oc', fr, tp, ro, et', lf', fe', ne', lv', cu', cb', ex', hg', qu', qd', pa', gn', nd', tr', og')) : wpX_best post (pr, so, si, ed, fl, qf, qs, oc, fr, tp, ro, et, lf, fe, ne, lv, cu, cb, ex, hg, qu, qd, pa, gn, nd, tr, og) (nI g) k (nI s) (nI t) := by
  unfold wpX_best
  refine fs_lay_n hp hk (fun fe' hfe => fs_solve_none (s := s) (t := t) hg7 (by omega) (by omega) hst rfl rfl rfl hfe ?_)
  intro fl' qf' qs' oc' lf' lv' cu' cb' ex' hg' qu' qd' pa' gn' nd' tr' og' h
  exact H _ _ _ _ _ _ _ _ _ _ _ _ _ _ _ _ _ _ _ _ h.1
/-- the flow and the rooms behind a search: s, t against the arc a, b with room r -/
def fs_Ga (g s t a b r : Nat) (f : Int32) (l : Nat → Int32) : Prop := ((s = a ∧ t = b) → fs_Gl g r f l) ∧ (¬ (s = a ∧ t = b) → f = 0 ∧ (g ≠ 3 → l 0 = nI r ∧ l 1 = 0))
theorem fs_best_o {post : Int32 → St2 → Prop} {pr so si ed fl qf qs oc : Int32} {fr tp ro et lf fe ne lv cu cb ex hg qu qd pa gn nd tr og : Nat → Int32} {g s t a b w r : Nat} {k : Int32} (hg7 : g < 7) (hs : s < 8) (ht : t < 8) (hst : s ≠ t) (ho : fs_one a b w pr fr tp ro) (hk : k < 2) (hr9 : r ≤ 99)
    (hr : (k = 1 ∧ r = (if 0 < w then 1 else 0)) ∨ (¬ k = 1 ∧ ¬ k = 2 ∧ r = w))
    (H : ∀ (fl' qf' qs' oc' : Int32) (et' lf' fe' ne' lv' cu' cb' ex' hg' qu' qd' pa' gn' nd' tr' og' : Nat → Int32), et' 0 = nI b → et' 1 = nI a → fs_Ga g s t a b r fl' lf' → post fl' (pr, nI s, nI t, nI 2, fl', qf', qs', oc', fr, tp, ro, et', lf', fe', ne', lv', cu', cb', ex', hg', qu', qd', pa', gn', nd', tr', og')) : wpX_best post (pr, so, si, ed, fl, qf, qs, oc, fr, tp, ro, et, lf, fe, ne, lv, cu, cb, ex, hg, qu, qd, pa, gn, nd, tr, og) (nI g) k (nI s) (nI t) := by
  unfold wpX_best
  refine fs_lay_a (r := nI r) ho hk (hr.imp (fun z => ⟨z.1, by rw [z.2]⟩) (fun z => ⟨z.1, z.2.1, by rw [z.2.2]⟩)) ?_
  obtain ⟨hp, ha, hb, hw, ha8, hb8, hab, hw9⟩ := ho
  intro et' lf' fe' ne' h1 h2 h3 h4 h5 h6 h7 h8 h9
  have hn : fs_Net a b r et' lf' fe' ne' := ⟨h1, h2, h3, h4, h5, h6, h7, h8, h9⟩
  by_cases c : (s = a ∧ t = b) ∧ 0 < r
  · obtain ⟨⟨c1, c2⟩, c3⟩ := c
    subst c1 c2
    refine fs_solve_live (s := s) (t := t) hg7 hs ht hst rfl rfl rfl hr9 c3 hn ?_
    intro fl' qf' qs' oc' lf2 lv' cu' cb' ex' hg' qu' qd' pa' gn' nd' tr' og' h
    exact H _ _ _ _ _ _ _ _ _ _ _ _ _ _ _ _ _ _ _ _ h1 h2 ⟨fun _ => h, fun z => absurd ⟨rfl, rfl⟩ z⟩
  · refine fs_solve_dead (s := s) (t := t) hg7 hs ht hst rfl rfl rfl ha8 hb8 hab hr9 hn (by omega) ?_
    intro fl' qf' qs' oc' lf2 lv' cu' cb' ex' hg' qu' qd' pa' gn' nd' tr' og' h
    refine H _ _ _ _ _ _ _ _ _ _ _ _ _ _ _ _ _ _ _ _ h1 h2 ⟨fun z => ?_, fun z => ⟨h.1, fun q => ⟨(h.2 q).1.trans h3, (h.2 q).2.trans h4⟩⟩⟩
    have r0 : r = 0 := by omega
    refine ⟨by rw [h.1, r0]; rfl, fun q => ⟨(h.2 q).1.trans (by rw [h3, r0]; rfl), (h.2 q).2.trans (by rw [h4, r0]; rfl)⟩⟩
/-! sets of points -/
def fs_st (l : Int32) (p q : Nat) (x : Int32) : Int32 := if l ≤ 0 then x else if ((x >>> (nI p &&& 31)) &&& 1) = 0 then x else x ||| ((1 : Int32) <<< (nI q &&& 31))
theorem fs_or0 (x : Int32) : x ||| 0 = x := Int32.or_zero
theorem fs_ss13 {post : Int32 → Prop} {J : Int32 → Int32 → Prop} {x3 x : Int32} {pr so si ed fl qf qs oc : Int32} {fr tp ro et lf fe ne lv cu cb ex hg qu qd pa gn nd tr og : Nat → Int32} {a b : Nat} (hed : ed = nI 2) (ha : a < 16) (hb : b < 16) (h0 : et 0 = nI b) (h1 : et 1 = nI a)
    (H : J (fs_st (lf 1) b a (fs_st (lf 0) a b x)) (x3 + 1)) : ∃ n, wX_spreadSet_13 post J x3 pr so si ed fl qf qs oc fr tp ro et lf fe ne lv cu cb ex hg qu qd pa gn nd tr og n x 0 := by
  subst hed
  have c0 : (nI 0).toNatClampNeg = 0 := nI_clamp (by omega)
  have c1 : (nI 1).toNatClampNeg = 1 := nI_clamp (by omega)
  have i0 : vp_in (nI 0) 56 := pk_in 0 56 (by omega)
  have i1 : vp_in (nI 1) 56 := pk_in 1 56 (by omega)
  have x0 : nI 0 ^^^ 1 = nI 1 := by decide
  have x1 : nI 1 ^^^ 1 = nI 0 := by decide
  have step1 : ∀ y : Int32, J (fs_st (lf 1) b a y) (x3 + 1) → wX_spreadSet_13 post J x3 pr so si (nI 2) fl qf qs oc fr tp ro et lf fe ne lv cu cb ex hg qu qd pa gn nd tr og 2 y (nI 1) := by
    intro y hy
    have fin : ∀ z : Int32, J z (x3 + 1) → wX_spreadSet_13 post J x3 pr so si (nI 2) fl qf qs oc fr tp ro et lf fe ne lv cu cb ex hg qu qd pa gn nd tr og 1 z (nI 2) := fun z hz => br_t (by decide) (nm_e hz)
    refine br_f (by decide) ⟨by rw [x1]; exact i0, nm_r (show et (nI 1 ^^^ 1).toNatClampNeg = nI b by rw [x1, c0]; exact h0) ⟨i1, ?_⟩⟩
    unfold fs_st at hy
    by_cases l : lf 1 ≤ 0
    · rw [if_pos l] at hy
      exact br_t (by rw [c1]; exact l) (nm_r (fs_or0 y) (nm_r (nI_1 1) (fin _ hy)))
    · rw [if_neg l] at hy
      refine br_f (by rw [c1]; exact l) ?_
      by_cases m : ((y >>> (nI b &&& 31)) &&& 1) = 0
      · rw [if_pos m] at hy
        exact br_t m (nm_r (fs_or0 y) (nm_r (nI_1 1) (fin _ hy)))
      · rw [if_neg m] at hy
        exact br_f m ⟨i1, nm_r (show y ||| ((1 : Int32) <<< (et (nI 1).toNatClampNeg &&& 31)) = y ||| ((1 : Int32) <<< (nI a &&& 31)) by rw [c1, h1]) (nm_r (nI_1 1) (fin _ hy))⟩
  refine ⟨3, br_f (show ¬ nI 2 ≤ nI 0 by decide) ⟨show vp_in (nI 0 ^^^ 1) 56 by rw [x0]; exact i1, nm_r (show et (nI 0 ^^^ 1).toNatClampNeg = nI a by rw [x0, c1]; exact h1) ⟨i0, ?_⟩⟩⟩
  have hx : J (fs_st (lf 1) b a (if lf 0 ≤ 0 then x else if ((x >>> (nI a &&& 31)) &&& 1) = 0 then x else x ||| ((1 : Int32) <<< (nI b &&& 31)))) (x3 + 1) := H
  by_cases l : lf 0 ≤ 0
  · rw [if_pos l] at hx
    exact br_t (show lf (nI 0).toNatClampNeg ≤ 0 by rw [c0]; exact l) (nm_r (fs_or0 x) (nm_r (nI_1 0) (step1 _ hx)))
  · rw [if_neg l] at hx
    refine br_f (show ¬ lf (nI 0).toNatClampNeg ≤ 0 by rw [c0]; exact l) ?_
    by_cases m : ((x >>> (nI a &&& 31)) &&& 1) = 0
    · rw [if_pos m] at hx
      exact br_t m (nm_r (fs_or0 x) (nm_r (nI_1 0) (step1 _ hx)))
    · rw [if_neg m] at hx
      exact br_f m ⟨i0, nm_r (show x ||| ((1 : Int32) <<< (et (nI 0).toNatClampNeg &&& 31)) = x ||| ((1 : Int32) <<< (nI b &&& 31)) by rw [c0, h0]) (nm_r (nI_1 0) (step1 _ hx))⟩
/-- sixteen rounds of which the second changes nothing any more -/
theorem fs_ss_n {post : Int32 → Prop} {pr so si ed fl qf qs oc : Int32} {fr tp ro et lf fe ne lv cu cb ex hg qu qd pa gn nd tr og : Nat → Int32} {x : Int32} (hed : ed = 0) (H : post x) : wpX_spreadSet post (pr, so, si, ed, fl, qf, qs, oc, fr, tp, ro, et, lf, fe, ne, lv, cu, cb, ex, hg, qu, qd, pa, gn, nd, tr, og) x := by
  subst hed
  unfold wpX_spreadSet
  exact pk_loop (σ := Unit) (fun n i _ => wX_spreadSet_4 post pr so si 0 fl qf qs oc fr tp ro et lf fe ne lv cu cb ex hg qu qd pa gn nd tr og n x (nI i)) (fun _ _ => True) 16 0 () (by omega) trivial
    (fun n _ _ => pk_le 16 16 (fun _ => H) (fun z => absurd z (by omega)))
    (fun n i _ hi _ hw => pk_le 16 i (fun z => absurd z (by omega)) (fun _ => ⟨1, br_t (by decide) (nm_r (nI_1 i) (hw () trivial))⟩))
theorem fs_ss_o {post : Int32 → Prop} {pr so si ed fl qf qs oc : Int32} {fr tp ro et lf fe ne lv cu cb ex hg qu qd pa gn nd tr og : Nat → Int32} {x y : Int32} {a b : Nat} (hed : ed = nI 2) (ha : a < 16) (hb : b < 16) (h0 : et 0 = nI b) (h1 : et 1 = nI a)
    (e1 : fs_st (lf 1) b a (fs_st (lf 0) a b x) = y) (e2 : fs_st (lf 1) b a (fs_st (lf 0) a b y) = y) (H : post y) : wpX_spreadSet post (pr, so, si, ed, fl, qf, qs, oc, fr, tp, ro, et, lf, fe, ne, lv, cu, cb, ex, hg, qu, qd, pa, gn, nd, tr, og) x := by
  unfold wpX_spreadSet
  refine pk_loop (fun n i (z : Int32) => wX_spreadSet_4 post pr so si ed fl qf qs oc fr tp ro et lf fe ne lv cu cb ex hg qu qd pa gn nd tr og n z (nI i)) (fun i z => (i = 0 ∧ z = x) ∨ (0 < i ∧ z = y)) 16 0 x (by omega) (Or.inl ⟨rfl, rfl⟩) ?_ ?_
  · rintro n z (⟨h, _⟩ | ⟨_, rfl⟩)
    · exact absurd h (by omega)
    · exact pk_le 16 16 (fun _ => H) (fun z => absurd z (by omega))
  · intro n i z hi h hw
    refine pk_le 16 i (fun z => absurd z (by omega)) (fun _ => fs_ss13 hed ha hb h0 h1 ?_)
    have e : fs_st (lf 1) b a (fs_st (lf 0) a b z) = y := by
      rcases h with ⟨_, rfl⟩ | ⟨_, rfl⟩
      · exact e1
      · exact e2
    rw [e, nI_1]
    exact hw y (Or.inr ⟨by omega, rfl⟩)
theorem fs_cs17 {post : Int32 → Prop} {J : Int32 → Int32 → Prop} {x3 x : Int32} {pr so si ed fl qf qs oc : Int32} {fr tp ro et lf fe ne lv cu cb ex hg qu qd pa gn nd tr og : Nat → Int32} {a b : Nat} (hed : ed = nI 2) (ha : a < 16) (hb : b < 16) (h0 : et 0 = nI b) (h1 : et 1 = nI a)
    (H : J (fs_st (lf 1) a b (fs_st (lf 0) b a x)) (x3 + 1)) : ∃ n, wX_comingSet_17 post J x3 pr so si ed fl qf qs oc fr tp ro et lf fe ne lv cu cb ex hg qu qd pa gn nd tr og n x 0 := by
  subst hed
  have c0 : (nI 0).toNatClampNeg = 0 := nI_clamp (by omega)
  have c1 : (nI 1).toNatClampNeg = 1 := nI_clamp (by omega)
  have i0 : vp_in (nI 0) 56 := pk_in 0 56 (by omega)
  have i1 : vp_in (nI 1) 56 := pk_in 1 56 (by omega)
  have x0 : nI 0 ^^^ 1 = nI 1 := by decide
  have x1 : nI 1 ^^^ 1 = nI 0 := by decide
  have step1 : ∀ y : Int32, J (fs_st (lf 1) a b y) (x3 + 1) → wX_comingSet_17 post J x3 pr so si (nI 2) fl qf qs oc fr tp ro et lf fe ne lv cu cb ex hg qu qd pa gn nd tr og 2 y (nI 1) := by
    intro y hy
    have fin : ∀ z : Int32, J z (x3 + 1) → wX_comingSet_17 post J x3 pr so si (nI 2) fl qf qs oc fr tp ro et lf fe ne lv cu cb ex hg qu qd pa gn nd tr og 1 z (nI 2) := fun z hz => br_t (by decide) (nm_e hz)
    refine br_f (by decide) ⟨by rw [x1]; exact i0, nm_r (show et (nI 1 ^^^ 1).toNatClampNeg = nI b by rw [x1, c0]; exact h0) ⟨i1, ?_⟩⟩
    unfold fs_st at hy
    by_cases l : lf 1 ≤ 0
    · rw [if_pos l] at hy
      exact br_t (by rw [c1]; exact l) (nm_r (fs_or0 y) (nm_r (nI_1 1) (fin _ hy)))
    · rw [if_neg l] at hy
      refine br_f (by rw [c1]; exact l) ⟨i1, ?_⟩
      by_cases m : ((y >>> (nI a &&& 31)) &&& 1) = 0
      · rw [if_pos m] at hy
        exact br_t (by rw [c1, h1]; exact m) (nm_r (fs_or0 y) (nm_r (nI_1 1) (fin _ hy)))
      · rw [if_neg m] at hy
        exact br_f (by rw [c1, h1]; exact m) (nm_e (nm_r (nI_1 1) (fin _ hy)))
  refine ⟨3, br_f (show ¬ nI 2 ≤ nI 0 by decide) ⟨show vp_in (nI 0 ^^^ 1) 56 by rw [x0]; exact i1, nm_r (show et (nI 0 ^^^ 1).toNatClampNeg = nI a by rw [x0, c1]; exact h1) ⟨i0, ?_⟩⟩⟩
  have hx : J (fs_st (lf 1) a b (if lf 0 ≤ 0 then x else if ((x >>> (nI b &&& 31)) &&& 1) = 0 then x else x ||| ((1 : Int32) <<< (nI a &&& 31)))) (x3 + 1) := H
  by_cases l : lf 0 ≤ 0
  · rw [if_pos l] at hx
    exact br_t (show lf (nI 0).toNatClampNeg ≤ 0 by rw [c0]; exact l) (nm_r (fs_or0 x) (nm_r (nI_1 0) (step1 _ hx)))
  · rw [if_neg l] at hx
    refine br_f (show ¬ lf (nI 0).toNatClampNeg ≤ 0 by rw [c0]; exact l) ⟨i0, ?_⟩
    by_cases m : ((x >>> (nI b &&& 31)) &&& 1) = 0
    · rw [if_pos m] at hx
      exact br_t (show ((x >>> (et (nI 0).toNatClampNeg &&& 31)) &&& 1) = 0 by rw [c0, h0]; exact m) (nm_r (fs_or0 x) (nm_r (nI_1 0) (step1 _ hx)))
    · rw [if_neg m] at hx
      exact br_f (show ¬ ((x >>> (et (nI 0).toNatClampNeg &&& 31)) &&& 1) = 0 by rw [c0, h0]; exact m) (nm_e (nm_r (nI_1 0) (step1 _ hx)))
theorem fs_cs_n {post : Int32 → Prop} {pr so si ed fl qf qs oc : Int32} {fr tp ro et lf fe ne lv cu cb ex hg qu qd pa gn nd tr og : Nat → Int32} (hed : ed = 0) (H : post ((1 : Int32) <<< (si &&& 31))) : wpX_comingSet post (pr, so, si, ed, fl, qf, qs, oc, fr, tp, ro, et, lf, fe, ne, lv, cu, cb, ex, hg, qu, qd, pa, gn, nd, tr, og) := by
  subst hed
  unfold wpX_comingSet
  exact nm_e (pk_loop (σ := Unit) (fun n i _ => wX_comingSet_9 post pr so si 0 fl qf qs oc fr tp ro et lf fe ne lv cu cb ex hg qu qd pa gn nd tr og n ((1 : Int32) <<< (si &&& 31)) (nI i)) (fun _ _ => True) 16 0 () (by omega) trivial
    (fun n _ _ => pk_le 16 16 (fun _ => H) (fun z => absurd z (by omega)))
    (fun n i _ hi _ hw => pk_le 16 i (fun z => absurd z (by omega)) (fun _ => ⟨1, br_t (by decide) (nm_r (nI_1 i) (hw () trivial))⟩)))
theorem fs_cs_o {post : Int32 → Prop} {pr so si ed fl qf qs oc : Int32} {fr tp ro et lf fe ne lv cu cb ex hg qu qd pa gn nd tr og : Nat → Int32} {y : Int32} {a b : Nat} (hed : ed = nI 2) (ha : a < 16) (hb : b < 16) (h0 : et 0 = nI b) (h1 : et 1 = nI a)
    (e1 : fs_st (lf 1) a b (fs_st (lf 0) b a ((1 : Int32) <<< (si &&& 31))) = y) (e2 : fs_st (lf 1) a b (fs_st (lf 0) b a y) = y) (H : post y) : wpX_comingSet post (pr, so, si, ed, fl, qf, qs, oc, fr, tp, ro, et, lf, fe, ne, lv, cu, cb, ex, hg, qu, qd, pa, gn, nd, tr, og) := by
  unfold wpX_comingSet
  refine nm_e (pk_loop (fun n i (z : Int32) => wX_comingSet_9 post pr so si ed fl qf qs oc fr tp ro et lf fe ne lv cu cb ex hg qu qd pa gn nd tr og n z (nI i)) (fun i z => (i = 0 ∧ z = ((1 : Int32) <<< (si &&& 31))) ∨ (0 < i ∧ z = y)) 16 0 _ (by omega) (Or.inl ⟨rfl, rfl⟩) ?_ ?_)
  · rintro n z (⟨h, _⟩ | ⟨_, rfl⟩)
    · exact absurd h (by omega)
    · exact pk_le 16 16 (fun _ => H) (fun z => absurd z (by omega))
  · intro n i z hi h hw
    refine pk_le 16 i (fun z => absurd z (by omega)) (fun _ => fs_cs17 hed ha hb h0 h1 ?_)
    have e : fs_st (lf 1) a b (fs_st (lf 0) b a z) = y := by
      rcases h with ⟨_, rfl⟩ | ⟨_, rfl⟩
      · exact e1
      · exact e2
    rw [e, nI_1]
    exact hw y (Or.inr ⟨by omega, rfl⟩)
end
section
/-! the answers -/
def fs_o (s : Nat) : Int32 := (1 : Int32) <<< (nI s &&& 31)
theorem fs_bit1 {s p : Nat} (hs : s < 8) (hp : p < 8) : ((fs_o s >>> (nI p &&& 31)) &&& 1) = 0 ↔ s ≠ p := by
  have g : ∀ s, s < 8 → ∀ p, p < 8 → (((fs_o s >>> (nI p &&& 31)) &&& 1) = 0 ↔ s ≠ p) := by decide +kernel
  exact g s hs p hp
theorem fs_bit2 {s b p : Nat} (hs : s < 8) (hb : b < 8) (hp : p < 8) : (((fs_o s ||| fs_o b) >>> (nI p &&& 31)) &&& 1) = 0 ↔ (s ≠ p ∧ b ≠ p) := by
  have g : ∀ s, s < 8 → ∀ b, b < 8 → ∀ p, p < 8 → ((((fs_o s ||| fs_o b) >>> (nI p &&& 31)) &&& 1) = 0 ↔ (s ≠ p ∧ b ≠ p)) := by decide +kernel
  exact g s hs b hb p hp
theorem fs_or2 {s b : Nat} (hs : s < 8) (hb : b < 8) : (fs_o s ||| fs_o b) ||| fs_o b = fs_o s ||| fs_o b := by
  have g : ∀ s, s < 8 → ∀ b, b < 8 → (fs_o s ||| fs_o b) ||| fs_o b = fs_o s ||| fs_o b := by decide +kernel
  exact g s hs b hb
theorem fs_st0 {l x : Int32} {p q : Nat} (h : l ≤ 0) : fs_st l p q x = x := if_pos h
theorem fs_st1 {l x : Int32} {p q : Nat} (h : ((x >>> (nI p &&& 31)) &&& 1) = 0) : fs_st l p q x = x := by
  unfold fs_st
  by_cases z : l ≤ 0
  · rw [if_pos z]
  · rw [if_neg z, if_pos h]
theorem fs_st2 {l x : Int32} {p q : Nat} (hl : ¬ l ≤ 0) (h : ¬ ((x >>> (nI p &&& 31)) &&& 1) = 0) : fs_st l p q x = x ||| fs_o q := by
  unfold fs_st
  rw [if_neg hl, if_neg h]
  rfl
/-- the set that is reached from the source -/
theorem fs_near {g s t a b r : Nat} {f : Int32} {l : Nat → Int32} (hg3 : g ≠ 3) (hs : s < 8) (ht : t < 8) (hst : s ≠ t) (ha : a < 8) (hb : b < 8) (hab : a ≠ b) (hr : r ≤ 99) (h : fs_Ga g s t a b r f l) :
    ∃ y, fs_st (l 1) b a (fs_st (l 0) a b (fs_o s)) = y ∧ fs_st (l 1) b a (fs_st (l 0) a b y) = y ∧ ((0 < r ∧ s = a ∧ t ≠ b) → y = fs_o s ||| fs_o b) ∧ (¬ (0 < r ∧ s = a ∧ t ≠ b) → y = fs_o s) := by
  obtain ⟨h1, h2⟩ := h
  by_cases c : s = a ∧ t = b
  · obtain ⟨l0, l1⟩ := (h1 c).2 hg3
    have e : fs_st (l 1) b a (fs_st (l 0) a b (fs_o s)) = fs_o s := by
      rw [fs_st0 (l := l 0) (by rw [l0]; decide), fs_st1 ((fs_bit1 hs hb).mpr (by omega))]
    exact ⟨fs_o s, e, e, fun z => absurd c.2 z.2.2, fun _ => rfl⟩
  · obtain ⟨l0, l1⟩ := (h2 c).2 hg3
    have z1 : l 1 ≤ 0 := by rw [l1]; decide
    by_cases d : 0 < r ∧ s = a
    · have z0 : ¬ l 0 ≤ 0 := by rw [l0]; exact nI_nle d.1 (by omega)
      refine ⟨fs_o s ||| fs_o b, ?_, ?_, fun _ => rfl, fun z => absurd ⟨d.1, d.2, fun q => c ⟨d.2, q⟩⟩ z⟩
      · rw [fs_st0 z1, fs_st2 z0 (fun q => (fs_bit1 hs ha).mp q d.2)]
      · rw [fs_st0 z1, fs_st2 z0 (fun q => ((fs_bit2 hs hb ha).mp q).1 d.2), fs_or2 hs hb]
    · have e : fs_st (l 1) b a (fs_st (l 0) a b (fs_o s)) = fs_o s := by
        rw [fs_st0 z1]
        by_cases r0 : r = 0
        · exact fs_st0 (by rw [l0, r0]; decide)
        · exact fs_st1 ((fs_bit1 hs ha).mpr (fun q => d ⟨by omega, q⟩))
      exact ⟨fs_o s, e, e, fun z => absurd ⟨z.1, z.2.1⟩ d, fun _ => rfl⟩
/-- the set from which the sink is reached: does it hold b? -/
theorem fs_far {g s t a b r : Nat} {f : Int32} {l : Nat → Int32} (hg3 : g ≠ 3) (hs : s < 8) (ht : t < 8) (hst : s ≠ t) (ha : a < 8) (hb : b < 8) (hab : a ≠ b) (hr : r ≤ 99) (h : fs_Ga g s t a b r f l) :
    ∃ y, fs_st (l 1) a b (fs_st (l 0) b a (fs_o t)) = y ∧ fs_st (l 1) a b (fs_st (l 0) b a y) = y ∧ (((y >>> (nI b &&& 31)) &&& 1) = 0 ↔ t ≠ b) := by
  obtain ⟨h1, h2⟩ := h
  by_cases c : s = a ∧ t = b
  · obtain ⟨l0, l1⟩ := (h1 c).2 hg3
    have e : fs_st (l 1) a b (fs_st (l 0) b a (fs_o t)) = fs_o t := by
      rw [fs_st0 (l := l 0) (by rw [l0]; decide), fs_st1 ((fs_bit1 ht ha).mpr (by omega))]
    exact ⟨fs_o t, e, e, fs_bit1 ht hb⟩
  · obtain ⟨l0, l1⟩ := (h2 c).2 hg3
    have z1 : l 1 ≤ 0 := by rw [l1]; decide
    by_cases d : 0 < r ∧ t = b
    · have z0 : ¬ l 0 ≤ 0 := by rw [l0]; exact nI_nle d.1 (by omega)
      refine ⟨fs_o t ||| fs_o a, ?_, ?_, ?_⟩
      · rw [fs_st0 z1, fs_st2 z0 (fun q => (fs_bit1 ht hb).mp q d.2)]
      · rw [fs_st0 z1, fs_st2 z0 (fun q => ((fs_bit2 ht ha hb).mp q).1 d.2), fs_or2 ht ha]
      · rw [fs_bit2 ht ha hb]
        exact ⟨fun q => q.1, fun q => ⟨q, hab⟩⟩
    · have e : fs_st (l 1) a b (fs_st (l 0) b a (fs_o t)) = fs_o t := by
        rw [fs_st0 z1]
        by_cases r0 : r = 0
        · exact fs_st0 (by rw [l0, r0]; decide)
        · exact fs_st1 ((fs_bit1 ht hb).mpr (fun q => d ⟨by omega, q⟩))
      exact ⟨fs_o t, e, e, fs_bit1 ht hb⟩
/-- the object: one arc (ok), or none -/
def fs_ob (ok : Prop) (a b w : Nat) (pr : Int32) (fr tp ro : Nat → Int32) : Prop := (ok ∧ fs_one a b w pr fr tp ro) ∨ (¬ ok ∧ pr = 0)
def fs_mi (ok : Prop) (a b : Nat) (p q : Int32) : Prop := ok ∧ p = nI a ∧ q = nI b
def fs_eng (g : Int32) : Prop := ¬ g < 0 ∧ ¬ 7 ≤ g
def fs_rv (ok : Prop) (a b w : Nat) (p q g r : Int32) : Prop := (¬ (fs_pair p q ∧ fs_eng g) → r = -1) ∧ (fs_pair p q → fs_eng g → (fs_mi ok a b p q → r = nI w) ∧ (¬ fs_mi ok a b p q → r = 0))
def fs_rl (ok : Prop) (a b w : Nat) (p q r : Int32) : Prop := (¬ fs_pair p q → r = -1) ∧ (fs_pair p q → ((ok ∧ 0 < w ∧ p = nI a ∧ ¬ q = nI b) → r = ((1 : Int32) <<< (p &&& 31)) ||| ((1 : Int32) <<< (nI b &&& 31))) ∧ (¬ (ok ∧ 0 < w ∧ p = nI a ∧ ¬ q = nI b) → r = (1 : Int32) <<< (p &&& 31)))
def fs_rw (ok : Prop) (a b : Nat) (p q r : Int32) : Prop := (¬ fs_pair p q → r = -1) ∧ (fs_pair p q → (fs_mi ok a b p q → r = 1) ∧ (¬ fs_mi ok a b p q → r = 0))
def fs_rt (ok : Prop) (a b w : Nat) (p q m r : Int32) : Prop := (¬ (fs_pair p q ∧ ¬ m < 0 ∧ m ≤ 99) → r = -1) ∧ (fs_pair p q → ¬ m < 0 → m ≤ 99 → (fs_mi ok a b p q → r = nI w) ∧ (¬ fs_mi ok a b p q → r = 0))
def fs_rf (ok : Prop) (a b w : Nat) (p q r : Int32) : Prop := (¬ fs_pair p q → r = -1) ∧ (fs_pair p q → ((fs_mi ok a b p q ∧ 0 < w) → r = 1) ∧ (¬ (fs_mi ok a b p q ∧ 0 < w) → r = 0))
theorem fs_mi_iff {ok : Prop} {a b s t : Nat} (hk : ok) (ha : a < 8) (hb : b < 8) (hs : s < 8) (ht : t < 8) : fs_mi ok a b (nI s) (nI t) ↔ (s = a ∧ t = b) := by
  unfold fs_mi
  rw [nI_eq (by omega) (by omega), nI_eq (by omega) (by omega)]
  exact ⟨fun z => z.2, fun z => ⟨hk, z⟩⟩
theorem fs_pr {s t : Nat} (hs : s < 8) (ht : t < 8) (hst : s ≠ t) : fs_pair (nI s) (nI t) := ⟨s, t, hs, ht, hst, rfl, rfl⟩
theorem fs_value {post : Int32 → St2 → Prop} {pr so si ed fl qf qs oc : Int32} {fr tp ro et lf fe ne lv cu cb ex hg qu qd pa gn nd tr og : Nat → Int32} {ok : Prop} {a b w : Nat} {p q g : Int32} (ho : fs_ob ok a b w pr fr tp ro)
    (H : ∀ (r : Int32) (so' si' ed' fl' qf' qs' oc' : Int32) (et' lf' fe' ne' lv' cu' cb' ex' hg' qu' qd' pa' gn' nd' tr' og' : Nat → Int32), fs_rv ok a b w p q g r → post r (pr, so', si', ed', fl', qf', qs', oc', fr, tp, ro, et', lf', fe', ne', lv', cu', cb', ex', hg', qu', qd', pa', gn', nd', tr', og')) : wpX_value post (pr, so, si, ed, fl, qf, qs, oc, fr, tp, ro, et, lf, fe, ne, lv, cu, cb, ex, hg, qu, qd, pa, gn, nd, tr, og) g p q := by
  unfold wpX_value
  refine fs_isPair (fun z => br_t rfl (H _ _ _ _ _ _ _ _ _ _ _ _ _ _ _ _ _ _ _ _ _ _ _ _ ⟨fun _ => rfl, fun y => absurd y z⟩)) (fun s t hs ht hst ep eq => br_f (by decide) (fs_isEngine (fun z => br_t rfl (H _ _ _ _ _ _ _ _ _ _ _ _ _ _ _ _ _ _ _ _ _ _ _ _ ⟨fun _ => rfl, fun _ y => absurd z (fun x => x.elim y.1 y.2)⟩)) (fun e he ee => br_f (by decide) ?_)))
  subst ep eq ee
  have hE : fs_eng (nI e) := ⟨nI_pos (by omega), nI_ge (b := 7) he (by omega)⟩
  rcases ho with ⟨hk, ho⟩ | ⟨hk, hp⟩
  · have ho' := ho
    obtain ⟨_, _, _, _, ha8, hb8, hab, hw9⟩ := ho'
    refine fs_best_o (r := w) he hs ht hst ho (by decide) hw9 (Or.inr ⟨by decide, by decide, rfl⟩) ?_
    intro fl' qf' qs' oc' et' lf' fe' ne' lv' cu' cb' ex' hg' qu' qd' pa' gn' nd' tr' og' h1 h2 h3
    refine H _ _ _ _ _ _ _ _ _ _ _ _ _ _ _ _ _ _ _ _ _ _ _ _ ⟨fun z => absurd ⟨fs_pr hs ht hst, hE⟩ z, fun _ _ => ⟨fun z => ?_, fun z => ?_⟩⟩
    · exact (h3.1 ((fs_mi_iff hk ha8 hb8 hs ht).mp z)).1
    · exact (h3.2 (fun y => z ((fs_mi_iff hk ha8 hb8 hs ht).mpr y))).1
  · refine fs_best_n he hs ht hst hp (by decide) ?_
    intro fl' qf' qs' oc' et' lf' fe' ne' lv' cu' cb' ex' hg' qu' qd' pa' gn' nd' tr' og' h1
    exact H _ _ _ _ _ _ _ _ _ _ _ _ _ _ _ _ _ _ _ _ _ _ _ _ ⟨fun z => absurd ⟨fs_pr hs ht hst, hE⟩ z, fun _ _ => ⟨fun z => absurd z.1 hk, fun _ => h1⟩⟩
theorem fs_least {post : Int32 → St2 → Prop} {pr so si ed fl qf qs oc : Int32} {fr tp ro et lf fe ne lv cu cb ex hg qu qd pa gn nd tr og : Nat → Int32} {ok : Prop} {a b w : Nat} {p q : Int32} (ho : fs_ob ok a b w pr fr tp ro)
    (H : ∀ (r : Int32) (so' si' ed' fl' qf' qs' oc' : Int32) (et' lf' fe' ne' lv' cu' cb' ex' hg' qu' qd' pa' gn' nd' tr' og' : Nat → Int32), fs_rl ok a b w p q r → post r (pr, so', si', ed', fl', qf', qs', oc', fr, tp, ro, et', lf', fe', ne', lv', cu', cb', ex', hg', qu', qd', pa', gn', nd', tr', og')) : wpX_least post (pr, so, si, ed, fl, qf, qs, oc, fr, tp, ro, et, lf, fe, ne, lv, cu, cb, ex, hg, qu, qd, pa, gn, nd, tr, og) p q := by
  unfold wpX_least
  refine fs_isPair (fun z => br_t rfl (H _ _ _ _ _ _ _ _ _ _ _ _ _ _ _ _ _ _ _ _ _ _ _ _ ⟨fun _ => rfl, fun y => absurd y z⟩)) (fun s t hs ht hst ep eq => br_f (by decide) ?_)
  subst ep eq
  rcases ho with ⟨hk, ho⟩ | ⟨hk, hp⟩
  · have ho' := ho
    obtain ⟨_, _, _, _, ha8, hb8, hab, hw9⟩ := ho'
    refine fs_best_o (g := 1) (r := w) (by omega) hs ht hst ho (by decide) hw9 (Or.inr ⟨by decide, by decide, rfl⟩) ?_
    intro fl' qf' qs' oc' et' lf' fe' ne' lv' cu' cb' ex' hg' qu' qd' pa' gn' nd' tr' og' h1 h2 h3
    obtain ⟨y, e1, e2, e3, e4⟩ := fs_near (by omega) hs ht hst ha8 hb8 hab hw9 h3
    refine fs_ss_o (y := y) rfl (show a < 16 by omega) (show b < 16 by omega) h1 h2 e1 e2 (H _ _ _ _ _ _ _ _ _ _ _ _ _ _ _ _ _ _ _ _ _ _ _ _ ⟨fun z => absurd (fs_pr hs ht hst) z, fun _ => ⟨fun z => ?_, fun z => ?_⟩⟩)
    · refine e3 ⟨z.2.1, (nI_eq (by omega) (by omega)).mp z.2.2.1, fun x => z.2.2.2 (by rw [x])⟩
    · exact e4 (fun x => z ⟨hk, x.1, by rw [x.2.1], fun y => x.2.2 ((nI_eq (by omega) (by omega)).mp y)⟩)
  · refine fs_best_n (g := 1) (by omega) hs ht hst hp (by decide) ?_
    intro fl' qf' qs' oc' et' lf' fe' ne' lv' cu' cb' ex' hg' qu' qd' pa' gn' nd' tr' og' h1
    exact fs_ss_n rfl (H _ _ _ _ _ _ _ _ _ _ _ _ _ _ _ _ _ _ _ _ _ _ _ _ ⟨fun z => absurd (fs_pr hs ht hst) z, fun _ => ⟨fun z => absurd z.1 hk, fun _ => rfl⟩⟩)
theorem fs_wd_t {post : Int32 → St2 → Prop} {pr so si ed fl qf qs oc : Int32} {fr tp ro et lf fe ne lv cu cb ex hg qu qd pa gn nd tr og : Nat → Int32} {x3 x4 x5 : Int32} {i0 : Nat} (hi : i0 ≤ 20) (hp : pr = 0 ∨ (pr = 1 ∧ 0 < i0)) (H : post x5 (pr, so, si, ed, fl, qf, qs, oc, fr, tp, ro, et, lf, fe, ne, lv, cu, cb, ex, hg, qu, qd, pa, gn, nd, tr, og)) : ∃ n, wX_widening_39 post x3 x4 pr so si ed fl qf qs oc fr tp ro et lf fe ne lv cu cb ex hg qu qd pa gn nd tr og n x5 (nI i0) :=
  pk_loop (σ := Unit) (fun n i _ => wX_widening_39 post x3 x4 pr so si ed fl qf qs oc fr tp ro et lf fe ne lv cu cb ex hg qu qd pa gn nd tr og n x5 (nI i)) (fun i _ => i0 ≤ i) 20 i0 () hi (Nat.le_refl _)
    (fun n _ _ => pk_le 20 20 (fun _ => H) (fun z => absurd z (by omega)))
    (fun n i _ hi h hw => pk_le 20 i (fun z => absurd z (by omega)) (fun _ => fs_has0 hi (hp.imp id (fun z => ⟨z.1, by omega⟩)) (br_t rfl (br_t rfl (nm_r (fs_or0 x5) (nm_r (nI_1 i) (hw () (by omega))))))))
theorem fs_wd_a {post : Int32 → St2 → Prop} {pr so si ed fl qf qs oc : Int32} {fr tp ro et lf fe ne lv cu cb ex hg qu qd pa gn nd tr og : Nat → Int32} {x3 x4 : Int32} {a b w : Nat} (ho : fs_one a b w pr fr tp ro)
    (H1 : ¬ ((x3 >>> (nI a &&& 31)) &&& 1) = 0 → ¬ ((x4 >>> (nI b &&& 31)) &&& 1) = 0 → post 1 (pr, so, si, ed, fl, qf, qs, oc, fr, tp, ro, et, lf, fe, ne, lv, cu, cb, ex, hg, qu, qd, pa, gn, nd, tr, og)) (H0 : (((x3 >>> (nI a &&& 31)) &&& 1) = 0 ∨ ((x4 >>> (nI b &&& 31)) &&& 1) = 0) → post 0 (pr, so, si, ed, fl, qf, qs, oc, fr, tp, ro, et, lf, fe, ne, lv, cu, cb, ex, hg, qu, qd, pa, gn, nd, tr, og)) :
    ∃ n, wX_widening_39 post x3 x4 pr so si ed fl qf qs oc fr tp ro et lf fe ne lv cu cb ex hg qu qd pa gn nd tr og n 0 0 := by
  obtain ⟨hp, ha, hb, hw, ha8, hb8, hab, hw9⟩ := ho
  have c0 : fr (0 : Int32).toNatClampNeg = nI a := by rw [sb_cl0]; exact ha
  have d0 : tp (0 : Int32).toNatClampNeg = nI b := by rw [sb_cl0]; exact hb
  have i0 : vp_in 0 20 := pk_in 0 20 (by omega)
  by_cases x : ((x3 >>> (nI a &&& 31)) &&& 1) = 0
  · obtain ⟨N, hN⟩ := fs_wd_t (x3 := x3) (x4 := x4) (x5 := 0) (i0 := 1) (by omega) (Or.inr ⟨hp, by omega⟩) (H0 (Or.inl x))
    exact ⟨N + 1, br_f (by decide) (fs_has1 hp (br_f (by decide) ⟨i0, br_t (by rw [c0]; exact x) (br_t rfl (nm_r (fs_or0 0) (nm_r (nI_1 0) hN)))⟩))⟩
  · by_cases y : ((x4 >>> (nI b &&& 31)) &&& 1) = 0
    · obtain ⟨N, hN⟩ := fs_wd_t (x3 := x3) (x4 := x4) (x5 := 0) (i0 := 1) (by omega) (Or.inr ⟨hp, by omega⟩) (H0 (Or.inr y))
      exact ⟨N + 1, br_f (by decide) (fs_has1 hp (br_f (by decide) ⟨i0, br_f (by rw [c0]; exact x) ⟨i0, br_t (by rw [d0]; exact y) (br_t rfl (nm_r (fs_or0 0) (nm_r (nI_1 0) hN)))⟩⟩))⟩
    · obtain ⟨N, hN⟩ := fs_wd_t (x3 := x3) (x4 := x4) (x5 := 1) (i0 := 1) (by omega) (Or.inr ⟨hp, by omega⟩) (H1 x y)
      exact ⟨N + 1, br_f (by decide) (fs_has1 hp (br_f (by decide) ⟨i0, br_f (by rw [c0]; exact x) ⟨i0, br_f (by rw [d0]; exact y) (br_f (by decide) (nm_r (show (0 : Int32) ||| ((1 : Int32) <<< ((0 : Int32) &&& 31)) = 1 by decide) (nm_r (nI_1 0) hN)))⟩⟩))⟩
theorem fs_wide {post : Int32 → St2 → Prop} {pr so si ed fl qf qs oc : Int32} {fr tp ro et lf fe ne lv cu cb ex hg qu qd pa gn nd tr og : Nat → Int32} {ok : Prop} {a b w : Nat} {p q : Int32} (ho : fs_ob ok a b w pr fr tp ro)
    (H : ∀ (r : Int32) (so' si' ed' fl' qf' qs' oc' : Int32) (et' lf' fe' ne' lv' cu' cb' ex' hg' qu' qd' pa' gn' nd' tr' og' : Nat → Int32), fs_rw ok a b p q r → post r (pr, so', si', ed', fl', qf', qs', oc', fr, tp, ro, et', lf', fe', ne', lv', cu', cb', ex', hg', qu', qd', pa', gn', nd', tr', og')) : wpX_widening post (pr, so, si, ed, fl, qf, qs, oc, fr, tp, ro, et, lf, fe, ne, lv, cu, cb, ex, hg, qu, qd, pa, gn, nd, tr, og) p q := by
  unfold wpX_widening
  refine fs_isPair (fun z => br_t rfl (H _ _ _ _ _ _ _ _ _ _ _ _ _ _ _ _ _ _ _ _ _ _ _ _ ⟨fun _ => rfl, fun y => absurd y z⟩)) (fun s t hs ht hst ep eq => br_f (by decide) ?_)
  subst ep eq
  rcases ho with ⟨hk, ho⟩ | ⟨hk, hp⟩
  · have ho' := ho
    obtain ⟨_, _, _, _, ha8, hb8, hab, hw9⟩ := ho'
    refine fs_best_o (g := 5) (r := w) (by omega) hs ht hst ho (by decide) hw9 (Or.inr ⟨by decide, by decide, rfl⟩) ?_
    intro fl' qf' qs' oc' et' lf' fe' ne' lv' cu' cb' ex' hg' qu' qd' pa' gn' nd' tr' og' h1 h2 h3
    obtain ⟨y, e1, e2, e3, e4⟩ := fs_near (by omega) hs ht hst ha8 hb8 hab hw9 h3
    obtain ⟨z, f1, f2, f3⟩ := fs_far (by omega) hs ht hst ha8 hb8 hab hw9 h3
    have yb : ((y >>> (nI a &&& 31)) &&& 1) = 0 ↔ s ≠ a := by
      by_cases c : 0 < w ∧ s = a ∧ t ≠ b
      · rw [e3 c, fs_bit2 hs hb8 ha8]
        exact ⟨fun q => q.1, fun q => absurd c.2.1 q⟩
      · rw [e4 c]
        exact fs_bit1 hs ha8
    refine fs_ss_o (y := y) rfl (show a < 16 by omega) (show b < 16 by omega) h1 h2 e1 e2 ?_
    refine fs_cs_o (y := z) rfl (show a < 16 by omega) (show b < 16 by omega) h1 h2 f1 f2 ?_
    refine fs_wd_a ho (fun x1 x2 => H _ _ _ _ _ _ _ _ _ _ _ _ _ _ _ _ _ _ _ _ _ _ _ _ ⟨fun z => absurd (fs_pr hs ht hst) z, fun _ => ⟨fun _ => rfl, fun m => ?_⟩⟩) (fun x1 => H _ _ _ _ _ _ _ _ _ _ _ _ _ _ _ _ _ _ _ _ _ _ _ _ ⟨fun z => absurd (fs_pr hs ht hst) z, fun _ => ⟨fun m => ?_, fun _ => rfl⟩⟩)
    · rw [yb] at x1
      rw [f3] at x2
      exact absurd ((fs_mi_iff hk ha8 hb8 hs ht).mpr ⟨by omega, by omega⟩) m
    · have m' := (fs_mi_iff hk ha8 hb8 hs ht).mp m
      rw [yb, f3] at x1
      omega
  · refine fs_best_n (g := 5) (by omega) hs ht hst hp (by decide) ?_
    intro fl' qf' qs' oc' et' lf' fe' ne' lv' cu' cb' ex' hg' qu' qd' pa' gn' nd' tr' og' h1
    exact fs_ss_n rfl (fs_cs_n rfl (fs_wd_t (i0 := 0) (by omega) (Or.inl hp) (H _ _ _ _ _ _ _ _ _ _ _ _ _ _ _ _ _ _ _ _ _ _ _ _ ⟨fun z => absurd (fs_pr hs ht hst) z, fun _ => ⟨fun z => absurd z.1 hk, fun _ => rfl⟩⟩)))
theorem fs_fw_t {post : Int32 → St2 → Prop} {pr so si ed fl qf qs oc : Int32} {fr tp ro et lf fe ne lv cu cb ex hg qu qd pa gn nd tr og : Nat → Int32} {x3 x4 : Int32} {i0 : Nat} (hi : i0 ≤ 20) (hp : pr = 0 ∨ (pr = 1 ∧ 0 < i0)) (H : post x4 (pr, so, si, ed, fl, qf, qs, oc, fr, tp, ro, et, lf, fe, ne, lv, cu, cb, ex, hg, qu, qd, pa, gn, nd, tr, og)) : ∃ n, wX_fewest_33 post x3 pr so si ed fl qf qs oc fr tp ro et lf fe ne lv cu cb ex hg qu qd pa gn nd tr og n x4 (nI i0) :=
  pk_loop (σ := Unit) (fun n i _ => wX_fewest_33 post x3 pr so si ed fl qf qs oc fr tp ro et lf fe ne lv cu cb ex hg qu qd pa gn nd tr og n x4 (nI i)) (fun i _ => i0 ≤ i) 20 i0 () hi (Nat.le_refl _)
    (fun n _ _ => pk_le 20 20 (fun _ => H) (fun z => absurd z (by omega)))
    (fun n i _ hi h hw => pk_le 20 i (fun z => absurd z (by omega)) (fun _ => fs_has0 hi (hp.imp id (fun z => ⟨z.1, by omega⟩)) (br_t rfl (br_t rfl (nm_r (Int32.add_zero x4) (nm_r (nI_1 i) (hw () (by omega))))))))
theorem fs_fw_a {post : Int32 → St2 → Prop} {pr so si ed fl qf qs oc : Int32} {fr tp ro et lf fe ne lv cu cb ex hg qu qd pa gn nd tr og : Nat → Int32} {x3 : Int32} {a b w : Nat} (ho : fs_one a b w pr fr tp ro)
    (H1 : 0 < w → ¬ ((x3 >>> (nI a &&& 31)) &&& 1) = 0 → ((x3 >>> (nI b &&& 31)) &&& 1) = 0 → post 1 (pr, so, si, ed, fl, qf, qs, oc, fr, tp, ro, et, lf, fe, ne, lv, cu, cb, ex, hg, qu, qd, pa, gn, nd, tr, og)) (H0 : (w = 0 ∨ ((x3 >>> (nI a &&& 31)) &&& 1) = 0 ∨ ¬ ((x3 >>> (nI b &&& 31)) &&& 1) = 0) → post 0 (pr, so, si, ed, fl, qf, qs, oc, fr, tp, ro, et, lf, fe, ne, lv, cu, cb, ex, hg, qu, qd, pa, gn, nd, tr, og)) :
    ∃ n, wX_fewest_33 post x3 pr so si ed fl qf qs oc fr tp ro et lf fe ne lv cu cb ex hg qu qd pa gn nd tr og n 0 0 := by
  obtain ⟨hp, ha, hb, hw, ha8, hb8, hab, hw9⟩ := ho
  have c0 : fr (0 : Int32).toNatClampNeg = nI a := by rw [sb_cl0]; exact ha
  have d0 : tp (0 : Int32).toNatClampNeg = nI b := by rw [sb_cl0]; exact hb
  have r0 : ro (0 : Int32).toNatClampNeg = nI w := by rw [sb_cl0]; exact hw
  have i0 : vp_in 0 20 := pk_in 0 20 (by omega)
  have zero : post 0 (pr, so, si, ed, fl, qf, qs, oc, fr, tp, ro, et, lf, fe, ne, lv, cu, cb, ex, hg, qu, qd, pa, gn, nd, tr, og) → ∃ N, ∀ n, n = N → wX_fewest_91 post (wX_fewest_33 post x3 pr so si ed fl qf qs oc fr tp ro et lf fe ne lv cu cb ex hg qu qd pa gn nd tr og n) x3 0 0 pr so si ed fl qf qs oc fr tp ro et lf fe ne lv cu cb ex hg qu qd pa gn nd tr og := by
    intro h
    obtain ⟨N, hN⟩ := fs_fw_t (x3 := x3) (x4 := 0) (i0 := 1) (by omega) (Or.inr ⟨hp, by omega⟩) h
    exact ⟨N, fun n e => by subst e; exact br_t rfl (nm_r (Int32.add_zero 0) (nm_r (nI_1 0) hN))⟩
  by_cases z : w = 0
  · obtain ⟨N, hN⟩ := zero (H0 (Or.inl z))
    exact ⟨N + 1, br_f (by decide) (fs_has1 hp (br_f (by decide) ⟨i0, br_t (by rw [r0, z]; decide) (hN N rfl)⟩))⟩
  · have w0 : ¬ ro (0 : Int32).toNatClampNeg ≤ 0 := by rw [r0]; exact nI_nle (by omega) (by omega)
    by_cases x : ((x3 >>> (nI a &&& 31)) &&& 1) = 0
    · obtain ⟨N, hN⟩ := zero (H0 (Or.inr (Or.inl x)))
      exact ⟨N + 1, br_f (by decide) (fs_has1 hp (br_f (by decide) ⟨i0, br_f w0 ⟨i0, br_t (by rw [c0]; exact x) (hN N rfl)⟩⟩))⟩
    · by_cases y : ((x3 >>> (nI b &&& 31)) &&& 1) = 0
      · obtain ⟨N, hN⟩ := fs_fw_t (x3 := x3) (x4 := 1) (i0 := 1) (by omega) (Or.inr ⟨hp, by omega⟩) (H1 (by omega) x y)
        exact ⟨N + 1, br_f (by decide) (fs_has1 hp (br_f (by decide) ⟨i0, br_f w0 ⟨i0, br_f (by rw [c0]; exact x) ⟨i0, br_t (by rw [d0]; exact y) (br_f (by decide) (nm_r (show (0 : Int32) + 1 = 1 by decide) (nm_r (nI_1 0) hN)))⟩⟩⟩))⟩
      · obtain ⟨N, hN⟩ := zero (H0 (Or.inr (Or.inr y)))
        exact ⟨N + 1, br_f (by decide) (fs_has1 hp (br_f (by decide) ⟨i0, br_f w0 ⟨i0, br_f (by rw [c0]; exact x) ⟨i0, br_f (by rw [d0]; exact y) (hN N rfl)⟩⟩⟩))⟩
theorem fs_few {post : Int32 → St2 → Prop} {pr so si ed fl qf qs oc : Int32} {fr tp ro et lf fe ne lv cu cb ex hg qu qd pa gn nd tr og : Nat → Int32} {ok : Prop} {a b w : Nat} {p q : Int32} (ho : fs_ob ok a b w pr fr tp ro)
    (H : ∀ (r : Int32) (so' si' ed' fl' qf' qs' oc' : Int32) (et' lf' fe' ne' lv' cu' cb' ex' hg' qu' qd' pa' gn' nd' tr' og' : Nat → Int32), fs_rf ok a b w p q r → post r (pr, so', si', ed', fl', qf', qs', oc', fr, tp, ro, et', lf', fe', ne', lv', cu', cb', ex', hg', qu', qd', pa', gn', nd', tr', og')) : wpX_fewest post (pr, so, si, ed, fl, qf, qs, oc, fr, tp, ro, et, lf, fe, ne, lv, cu, cb, ex, hg, qu, qd, pa, gn, nd, tr, og) p q := by
  unfold wpX_fewest
  refine fs_isPair (fun z => br_t rfl (H _ _ _ _ _ _ _ _ _ _ _ _ _ _ _ _ _ _ _ _ _ _ _ _ ⟨fun _ => rfl, fun y => absurd y z⟩)) (fun s t hs ht hst ep eq => br_f (by decide) ?_)
  subst ep eq
  rcases ho with ⟨hk, ho⟩ | ⟨hk, hp⟩
  · have ho' := ho
    obtain ⟨_, _, _, _, ha8, hb8, hab, hw9⟩ := ho'
    have r1 : (if 0 < w then 1 else 0) ≤ 99 := by split <;> omega
    refine fs_best_o (g := 2) (r := if 0 < w then 1 else 0) (by omega) hs ht hst ho (by decide) r1 (Or.inl ⟨rfl, rfl⟩) ?_
    intro fl' qf' qs' oc' et' lf' fe' ne' lv' cu' cb' ex' hg' qu' qd' pa' gn' nd' tr' og' h1 h2 h3
    obtain ⟨y, e1, e2, e3, e4⟩ := fs_near (by omega) hs ht hst ha8 hb8 hab r1 h3
    have ri : 0 < (if 0 < w then 1 else 0) ↔ 0 < w := by split <;> omega
    rw [ri] at e3 e4
    refine fs_ss_o (y := y) rfl (show a < 16 by omega) (show b < 16 by omega) h1 h2 e1 e2 ?_
    refine fs_fw_a ho (fun w0 x1 x2 => H _ _ _ _ _ _ _ _ _ _ _ _ _ _ _ _ _ _ _ _ _ _ _ _ ⟨fun z => absurd (fs_pr hs ht hst) z, fun _ => ⟨fun _ => rfl, fun m => ?_⟩⟩) (fun x1 => H _ _ _ _ _ _ _ _ _ _ _ _ _ _ _ _ _ _ _ _ _ _ _ _ ⟨fun z => absurd (fs_pr hs ht hst) z, fun _ => ⟨fun m => ?_, fun _ => rfl⟩⟩)
    · exfalso
      by_cases c : 0 < w ∧ s = a ∧ t ≠ b
      · rw [e3 c, fs_bit2 hs hb8 hb8] at x2
        exact x2.2 rfl
      · rw [e4 c, fs_bit1 hs ha8] at x1
        exact m ⟨(fs_mi_iff hk ha8 hb8 hs ht).mpr ⟨by omega, by omega⟩, w0⟩
    · exfalso
      obtain ⟨m1, m2⟩ := m
      have m' := (fs_mi_iff hk ha8 hb8 hs ht).mp m1
      rw [e4 (by omega), fs_bit1 hs ha8, fs_bit1 hs hb8] at x1
      omega
  · refine fs_best_n (g := 2) (by omega) hs ht hst hp (by decide) ?_
    intro fl' qf' qs' oc' et' lf' fe' ne' lv' cu' cb' ex' hg' qu' qd' pa' gn' nd' tr' og' h1
    exact fs_ss_n rfl (fs_fw_t (i0 := 0) (by omega) (Or.inl hp) (H _ _ _ _ _ _ _ _ _ _ _ _ _ _ _ _ _ _ _ _ _ _ _ _ ⟨fun z => absurd (fs_pr hs ht hst) z, fun _ => ⟨fun z => absurd z.1.1 hk, fun _ => rfl⟩⟩))
theorem fs_solve3 {post : St2 → Prop} {pr so si ed fl qf qs oc : Int32} {fr tp ro et lf fe ne lv cu cb ex hg qu qd pa gn nd tr og : Nat → Int32} {G : Int32 → (Nat → Int32) → Prop} (H : fs_R post pr so si ed fr tp ro et fe ne G)
    (h3 : ∀ Q, fs_R Q pr so si ed fr tp ro et fe ne G → wpX_solveByPushingHighest Q (pr, so, si, ed, fl, qf, qs, oc, fr, tp, ro, et, lf, fe, ne, lv, cu, cb, ex, hg, qu, qd, pa, gn, nd, tr, og)) : wpX_solve post (pr, so, si, ed, fl, qf, qs, oc, fr, tp, ro, et, lf, fe, ne, lv, cu, cb, ex, hg, qu, qd, pa, gn, nd, tr, og) 3 :=
  fs_solve (g := 3) (by omega) H (fun z => absurd z (by omega)) (fun z => absurd z (by omega)) (fun z => absurd z (by omega)) (fun _ => h3) (fun z => absurd z (by omega)) (fun z => absurd z (by omega)) (fun z => absurd z (by omega))
theorem fs_thro {post : Int32 → St2 → Prop} {pr so si ed fl qf qs oc : Int32} {fr tp ro et lf fe ne lv cu cb ex hg qu qd pa gn nd tr og : Nat → Int32} {ok : Prop} {a b w : Nat} {p q m : Int32} (ho : fs_ob ok a b w pr fr tp ro)
    (H : ∀ (r : Int32) (so' si' ed' fl' qf' qs' oc' : Int32) (et' lf' fe' ne' lv' cu' cb' ex' hg' qu' qd' pa' gn' nd' tr' og' : Nat → Int32), fs_rt ok a b w p q m r → post r (pr, so', si', ed', fl', qf', qs', oc', fr, tp, ro, et', lf', fe', ne', lv', cu', cb', ex', hg', qu', qd', pa', gn', nd', tr', og')) : wpX_throttled post (pr, so, si, ed, fl, qf, qs, oc, fr, tp, ro, et, lf, fe, ne, lv, cu, cb, ex, hg, qu, qd, pa, gn, nd, tr, og) p q m := by
  unfold wpX_throttled
  refine fs_isPair (fun z => br_t rfl (H _ _ _ _ _ _ _ _ _ _ _ _ _ _ _ _ _ _ _ _ _ _ _ _ ⟨fun _ => rfl, fun y => absurd y z⟩)) (fun s t hs ht hst ep eq => br_f (by decide) (br_c (fun z => H _ _ _ _ _ _ _ _ _ _ _ _ _ _ _ _ _ _ _ _ _ _ _ _ ⟨fun _ => rfl, fun _ y => absurd z y⟩) (fun m0 => br_c (fun m9 => ?_) (fun z => H _ _ _ _ _ _ _ _ _ _ _ _ _ _ _ _ _ _ _ _ _ _ _ _ ⟨fun _ => rfl, fun _ _ y => absurd y z⟩))))
  subst ep eq
  rcases ho with ⟨hk, ho⟩ | ⟨hk, hp⟩
  · have ho' := ho
    obtain ⟨_, _, _, _, ha8, hb8, hab, hw9⟩ := ho'
    refine fs_lay3_a hs ht ho ?_
    intro M f ed' et' lf' fe' ne' hM hW hf hc h1 h2 h3 h4 h5 h6 h7 h8 h9 h10
    refine fs_solve3 (G := fun x _ => ((s = a ∧ t = b) → x = nI w) ∧ (¬ (s = a ∧ t = b) → x = 0)) ?_ ?_
    · intro fl2 qf2 qs2 oc2 lf2 lv2 cu2 cb2 ex2 hg2 qu2 qd2 pa2 gn2 nd2 tr2 og2 hx
      refine H _ _ _ _ _ _ _ _ _ _ _ _ _ _ _ _ _ _ _ _ _ _ _ _ ⟨fun z => absurd ⟨fs_pr hs ht hst, m0, m9⟩ z, fun _ _ _ => ⟨fun z => hx.1 ((fs_mi_iff hk ha8 hb8 hs ht).mp z), fun z => hx.2 (fun y => z ((fs_mi_iff hk ha8 hb8 hs ht).mpr y))⟩⟩
    · intro Q hQ
      by_cases z : s = a
      · by_cases y : t = b
        · exact fs_e3_quiet (s := s) (t := t) (e := 0) (v := b) (w := w) (by omega) (by omega) hst rfl rfl (by omega) (by omega) (by omega) (h7 z) h5 h1 h3 hw9 (Or.inr y.symm) (fs_Rw hQ (fun x _ hx => ⟨fun _ => hx, fun q => absurd ⟨z, y⟩ q⟩))
        · by_cases w0 : w = 0
          · exact fs_e3_quiet (s := s) (t := t) (e := 0) (v := b) (w := w) (by omega) (by omega) hst rfl rfl (by omega) (by omega) (by omega) (h7 z) h5 h1 h3 hw9 (Or.inl w0) (fs_Rw hQ (fun x _ hx => ⟨fun q => absurd q.2 y, fun _ => by rw [hx, w0]; rfl⟩))
          · refine fs_e3_back (s := s) (t := t) (e := 0) (v := b) (w := w) (m := M) (by omega) (by omega) hst rfl rfl (by omega) (by omega) (by omega) (Ne.symm y) (h7 z) h5 h1 h3 hw9 (by omega) hW (fun e he => ?_) (fs_Rw hQ (fun x _ hx => ⟨fun q => absurd q.2 y, fun _ => hx⟩))
            by_cases e2 : 2 ≤ e
            · exact h10 e e2 he
            · rcases (show e = 0 ∨ e = 1 by omega) with rfl | rfl
              · rw [h1, nI_eq (by omega) (by omega)]; exact Ne.symm y
              · rw [h2, nI_eq (by omega) (by omega)]; omega
      · have nm : ¬ (s = a ∧ t = b) := fun q => z q.1
        by_cases y : s = b
        · exact fs_e3_quiet (s := s) (t := t) (e := 1) (v := f) (w := 0) (by omega) (by omega) hst rfl rfl (by omega) hf (by omega) (h8 y) h6 h2 h4 (by omega) (Or.inl rfl) (fs_Rw hQ (fun x _ hx => ⟨fun q => absurd q nm, fun _ => hx⟩))
        · exact fs_e3_none (s := s) (t := t) (by omega) (by omega) rfl rfl (h9 z y) (fs_Rw hQ (fun x _ hx => ⟨fun q => absurd q nm, fun _ => hx⟩))
  · refine fs_lay3_n hs ht hp ?_
    intro M ed' et' lf' fe' ne' hW hfe
    refine fs_solve3 (G := fun x _ => x = 0) ?_ (fun Q hQ => fs_e3_none (s := s) (t := t) (by omega) (by omega) rfl rfl hfe hQ)
    intro fl2 qf2 qs2 oc2 lf2 lv2 cu2 cb2 ex2 hg2 qu2 qd2 pa2 gn2 nd2 tr2 og2 hx
    exact H _ _ _ _ _ _ _ _ _ _ _ _ _ _ _ _ _ _ _ _ _ _ _ _ ⟨fun z => absurd ⟨fs_pr hs ht hst, m0, m9⟩ z, fun _ _ _ => ⟨fun z => absurd z.1 hk, fun _ => hx⟩⟩
end
section
/-! the law -/
def fs_fl (P : Prop) (z : Int32) : Prop := (P ∧ z = 1) ∨ (¬ P ∧ z = 0)
theorem fs_cell {post : Int32 → Prop} {L k : Nat} {xs : Nat → Int32} {u : St0} {x : Int32} (hL : L ≤ 6) (hk : k < 6) (hx : x = nI k) (H : ∀ r, post r) : wpL_cellAt post L xs u x := by
  subst hx
  unfold wpL_cellAt
  exact pk_le L k (fun _ => H _) (fun z => ⟨pk_in k L z, H _⟩)
theorem fs_67 {x : Int32} : (6 : Int32) < x ↔ 7 ≤ x := by
  rw [Int32.lt_iff_toInt_lt, Int32.le_iff_toInt_le]
  have e6 : (6 : Int32).toInt = 6 := by decide
  have e7 : (7 : Int32).toInt = 7 := by decide
  rw [e6, e7]; omega
theorem fs_78 {x : Int32} : (7 : Int32) < x ↔ 8 ≤ x := by
  rw [Int32.lt_iff_toInt_lt, Int32.le_iff_toInt_le]
  have e6 : (7 : Int32).toInt = 7 := by decide
  have e7 : (8 : Int32).toInt = 8 := by decide
  rw [e6, e7]; omega
theorem fs_99 {x : Int32} : (99 : Int32) < x ↔ ¬ x ≤ 99 := by
  rw [Int32.lt_iff_toInt_lt, Int32.le_iff_toInt_le]; omega
theorem fs_pair_of {p q : Int32} (h1 : ¬ p < 0) (h2 : ¬ 7 < p) (h3 : ¬ q < 0) (h4 : ¬ 7 < q) (h5 : ¬ p = q) : fs_pair p q := by
  rw [fs_78] at h2 h4
  obtain ⟨s, hs, rfl⟩ := fs_pt h1 h2
  obtain ⟨t, ht, rfl⟩ := fs_pt h3 h4
  exact ⟨s, t, hs, ht, fun z => h5 (by rw [z]), rfl, rfl⟩
theorem fs_pair_no {p q : Int32} (h : fs_pair p q) : ¬ p < 0 ∧ ¬ 7 < p ∧ ¬ q < 0 ∧ ¬ 7 < q ∧ ¬ p = q := by
  obtain ⟨s, t, hs, ht, hn, rfl, rfl⟩ := h
  rw [fs_78, fs_78, nI_eq (by omega) (by omega)]
  exact ⟨(fs_ptn hs).1, (fs_ptn hs).2, (fs_ptn ht).1, (fs_ptn ht).2, hn⟩
/-- the chain of comparisons at the law's end -/
theorem fs_chain {post : Int32 → St0 → Prop} {mc ms kc ks : Nat} {x2 x7 x8 x9 x10 x11 x12 x13 x14 x15 x16 x18 x19 : Int32} {ok T M I F : Prop} (hp : post 1 ())
    (f13 : fs_fl ok x13) (f14 : fs_fl T x14) (f15 : fs_fl M x15) (f16 : fs_fl I x16) (f18 : fs_fl F x18)
    (h7 : (ok → x7 = 0) ∧ (¬ ok → x7 = -1)) (h8 : (¬ I → x8 = -1) ∧ (I → (M → x8 = x2) ∧ (¬ M → x8 = 0))) (h9 : x9 = x19)
    (h10 : (¬ T → x10 = -1) ∧ (T → (M → x10 = 1) ∧ (¬ M → x10 = 0))) (h11 : (¬ (T ∧ F) → x11 = -1) ∧ (T → F → (M → x11 = x2) ∧ (¬ M → x11 = 0)))
    (h12 : (¬ T → x12 = -1) ∧ (T → ((M ∧ ¬ x2 ≤ 0) → x12 = 1) ∧ (¬ (M ∧ ¬ x2 ≤ 0) → x12 = 0))) :
    wL_lawOf_273 post mc ms x2 x7 x8 x9 x10 x11 x12 x13 x14 x15 x16 x18 x19 kc ks := by
  have H371 : ∀ z, wL_lawOf_371 post mc ms x2 x12 x14 x15 z z kc ks := by
    intro z
    refine br_t rfl ?_
    rcases f14 with ⟨t, e⟩ | ⟨t, e⟩
    · refine br_f (by rw [e]; decide) ?_
      rcases f15 with ⟨m, e'⟩ | ⟨m, e'⟩
      · refine br_f (by rw [e']; decide) (br_c (fun y => br_t ((h12.2 t).2 (fun q => q.2 y)) hp) (fun y => br_t ((h12.2 t).1 ⟨m, y⟩) hp))
      · exact br_t e' (br_t ((h12.2 t).2 (fun q => m q.1)) hp)
    · exact br_t e (br_t (h12.1 t) hp)
  have G371 : ∀ z y, z = y → wL_lawOf_371 post mc ms x2 x12 x14 x15 y z kc ks := fun z y e => by rw [e]; exact H371 y
  have H342 : ∀ z, wL_lawOf_342 post mc ms x2 x11 x12 x14 x15 x18 z z kc ks := by
    intro z
    refine br_t rfl ?_
    rcases f14 with ⟨t, e⟩ | ⟨t, e⟩
    · refine br_f (by rw [e]; decide) ?_
      rcases f18 with ⟨m, e'⟩ | ⟨m, e'⟩
      · refine br_f (by rw [e']; decide) ?_
        rcases f15 with ⟨n, e''⟩ | ⟨n, e''⟩
        · exact br_f (by rw [e'']; decide) (G371 _ _ ((h11.2 t m).1 n))
        · exact br_t e'' (G371 _ _ ((h11.2 t m).2 n))
      · exact br_t e' (G371 _ _ (h11.1 (fun q => m q.2)))
    · exact br_t e (G371 _ _ (h11.1 (fun q => t q.1)))
  have G342 : ∀ z y, z = y → wL_lawOf_342 post mc ms x2 x11 x12 x14 x15 x18 y z kc ks := fun z y e => by rw [e]; exact H342 y
  have H311 : ∀ z y, z = y → wL_lawOf_311 post mc ms x2 x9 x10 x11 x12 x14 x15 x18 x19 y z kc ks := by
    intro z y ez
    refine br_t ez (br_t h9 ?_)
    rcases f14 with ⟨t, e⟩ | ⟨t, e⟩
    · refine br_f (by rw [e]; decide) ?_
      rcases f15 with ⟨n, e''⟩ | ⟨n, e''⟩
      · exact br_f (by rw [e'']; decide) (G342 _ _ ((h10.2 t).1 n))
      · exact br_t e'' (G342 _ _ ((h10.2 t).2 n))
    · exact br_t e (G342 _ _ (h10.1 t))
  have H287 : ∀ z y, z = y → wL_lawOf_287 post mc ms x2 x8 x9 x10 x11 x12 x14 x15 x16 x18 x19 y z kc ks := by
    intro z y ez
    refine br_t ez ?_
    rcases f16 with ⟨t, e⟩ | ⟨t, e⟩
    · refine br_f (by rw [e]; decide) ?_
      rcases f15 with ⟨n, e''⟩ | ⟨n, e''⟩
      · exact br_f (by rw [e'']; decide) (H311 _ _ ((h8.2 t).1 n))
      · exact br_t e'' (H311 _ _ ((h8.2 t).2 n))
    · exact br_t e (H311 _ _ (h8.1 t))
  rcases f13 with ⟨t, e⟩ | ⟨t, e⟩
  · exact br_f (by rw [e]; decide) (H287 _ _ (h7.1 t))
  · exact br_t e (H287 _ _ (h7.2 t))
theorem fs_fin {post : Int32 → St0 → Prop} {mc ms kc ks : Nat} {x0 x1 x2 x3 x4 x5 x7 x8 x9 x10 x11 x12 zg : Int32} {ok : Prop} {a b w : Nat} (hp : post 1 ()) (hg : fs_fl ok zg) (hw9 : w ≤ 99)
    (hx : ok → x0 = nI a ∧ x1 = nI b ∧ x2 = nI w)
    (h7 : (ok → x7 = 0) ∧ (¬ ok → x7 = -1)) (h8 : fs_rv ok a b w x4 x5 x3 x8) (h9 : fs_rl ok a b w x4 x5 x9) (h10 : fs_rw ok a b x4 x5 x10) (h11 : fs_rt ok a b w x4 x5 x2 x11) (h12 : fs_rf ok a b w x4 x5 x12) :
    wL_lawOf_116 post mc ms x0 x1 x2 x3 x4 x5 x7 x8 x9 x10 x11 x12 zg kc ks := by
  have miI : fs_mi ok a b x4 x5 ↔ (ok ∧ x4 = x0 ∧ x5 = x1) := by
    unfold fs_mi
    constructor
    · rintro ⟨k, e1, e2⟩
      obtain ⟨y0, y1, _⟩ := hx k
      exact ⟨k, by rw [e1, y0], by rw [e2, y1]⟩
    · rintro ⟨k, e1, e2⟩
      obtain ⟨y0, y1, _⟩ := hx k
      exact ⟨k, by rw [e1, y0], by rw [e2, y1]⟩
  have w0I : ok → (0 < w ↔ ¬ x2 ≤ 0) := by
    intro k
    rw [(hx k).2.2]
    constructor
    · exact fun z => nI_nle z (by omega)
    · intro z
      rcases Nat.eq_zero_or_pos w with e | e
      · exact absurd (by rw [e]; decide) z
      · exact e
  -- from the flag of 'fits' on
  have S233 : ∀ zt zm zi zo zf, fs_fl (fs_pair x4 x5) zt → fs_fl (ok ∧ x4 = x0 ∧ x5 = x1) zm → fs_fl (fs_pair x4 x5 ∧ fs_eng x3) zi → fs_fl (ok ∧ ¬ x2 ≤ 0) zo → fs_fl (¬ x2 < 0 ∧ x2 ≤ 99) zf → wL_lawOf_233 post mc ms x0 x1 x2 x4 x5 x7 x8 x9 x10 x11 x12 zg zt zm zi zo zf kc ks := by
    intro zt zm zi zo zf ft fm fi fo ff
    have ch : ∀ y, x9 = y → wL_lawOf_273 post mc ms x2 x7 x8 x9 x10 x11 x12 zg zt zm zi zf y kc ks := by
      intro y hy
      refine fs_chain hp hg ft fm fi ff h7 ⟨h8.1, fun q => ⟨fun m => ?_, fun m => ?_⟩⟩ hy ⟨h10.1, fun q => ⟨fun m => (h10.2 q).1 (miI.mpr m), fun m => (h10.2 q).2 (fun z => m (miI.mp z))⟩⟩
        ⟨fun q => h11.1 q, fun q q2 => ⟨fun m => ?_, fun m => (h11.2 q q2.1 q2.2).2 (fun z => m (miI.mp z))⟩⟩
        ⟨h12.1, fun q => ⟨fun m => (h12.2 q).1 ⟨miI.mpr m.1, (w0I m.1.1).mpr m.2⟩, fun m => (h12.2 q).2 (fun z => m ⟨miI.mp z.1, (w0I z.1.1).mp z.2⟩)⟩⟩
      · rw [(h8.2 q.1 q.2).1 (miI.mpr m), (hx m.1).2.2]
      · exact (h8.2 q.1 q.2).2 (fun z => m (miI.mp z))
      · rw [(h11.2 q q2.1 q2.2).1 (miI.mpr m), (hx m.1).2.2]
    rcases ft with ⟨t, e⟩ | ⟨t, e⟩
    · refine br_f (by rw [e]; decide) ?_
      have one : ¬ (ok ∧ 0 < w ∧ x4 = nI a ∧ ¬ x5 = nI b) → wL_lawOf_271 post mc ms x2 x7 x8 x9 x10 x11 x12 zg zt zm zi zf ((1 : Int32) <<< (x4 &&& 31)) kc ks := by
        intro n
        exact ch _ (by rw [fs_or0]; exact (h9.2 t).2 n)
      rcases fo with ⟨o, e'⟩ | ⟨o, e'⟩
      · obtain ⟨y0, y1, y2⟩ := hx o.1
        refine br_f (by rw [e']; decide) (br_c (fun c1 => br_c (fun c2 => one (fun q => q.2.2.2 (by rw [c2, y1]))) (fun c2 => ?_)) (fun c1 => one (fun q => c1 (by rw [q.2.2.1, y0]))))
        refine ch _ ?_
        rw [(h9.2 t).1 ⟨o.1, (w0I o.1).mpr o.2, by rw [c1, y0], fun q => c2 (by rw [q, y1])⟩, y1]
      · exact br_t e' (one (fun q => o ⟨q.1, (w0I q.1).mp q.2.1⟩))
    · exact br_t e (ch _ (h9.1 t))
  have S216 : ∀ zt zm zi zo, fs_fl (fs_pair x4 x5) zt → fs_fl (ok ∧ x4 = x0 ∧ x5 = x1) zm → fs_fl (fs_pair x4 x5 ∧ fs_eng x3) zi → fs_fl (ok ∧ ¬ x2 ≤ 0) zo → wL_lawOf_216 post mc ms x0 x1 x2 x4 x5 x7 x8 x9 x10 x11 x12 zg zt zm zi zo kc ks := by
    intro zt zm zi zo ft fm fi fo
    refine br_c (fun z => S233 _ _ _ _ _ ft fm fi fo (Or.inr ⟨fun q => q.1 z, rfl⟩)) (fun z => br_c (fun y => S233 _ _ _ _ _ ft fm fi fo (Or.inr ⟨fun q => fs_99.mp y q.2, rfl⟩)) (fun y => S233 _ _ _ _ _ ft fm fi fo (Or.inl ⟨⟨z, Decidable.byContradiction (fun q => y (fs_99.mpr q))⟩, rfl⟩)))
  have S200 : ∀ zt zm zi, fs_fl (fs_pair x4 x5) zt → fs_fl (ok ∧ x4 = x0 ∧ x5 = x1) zm → fs_fl (fs_pair x4 x5 ∧ fs_eng x3) zi → wL_lawOf_200 post mc ms x0 x1 x2 x4 x5 x7 x8 x9 x10 x11 x12 zg zt zm zi kc ks := by
    intro zt zm zi ft fm fi
    rcases hg with ⟨k, e⟩ | ⟨k, e⟩
    · exact br_f (by rw [e]; decide) (br_c (fun z => S216 _ _ _ _ ft fm fi (Or.inr ⟨fun q => q.2 z, rfl⟩)) (fun z => S216 _ _ _ _ ft fm fi (Or.inl ⟨⟨k, z⟩, rfl⟩)))
    · exact br_t e (S216 _ _ _ _ ft fm fi (Or.inr ⟨fun q => k q.1, rfl⟩))
  have S178 : ∀ zt zm, fs_fl (fs_pair x4 x5) zt → fs_fl (ok ∧ x4 = x0 ∧ x5 = x1) zm → wL_lawOf_178 post mc ms x0 x1 x2 x3 x4 x5 x7 x8 x9 x10 x11 x12 zg zt zm kc ks := by
    intro zt zm ft fm
    have ft' := ft
    rcases ft with ⟨k, e⟩ | ⟨k, e⟩
    · exact br_f (by rw [e]; decide) (br_c (fun z => S200 _ _ _ ft' fm (Or.inr ⟨fun q => q.2.1 z, rfl⟩)) (fun z => br_c (fun y => S200 _ _ _ ft' fm (Or.inr ⟨fun q => q.2.2 (fs_67.mp y), rfl⟩)) (fun y => S200 _ _ _ ft' fm (Or.inl ⟨⟨k, z, fun q => y (fs_67.mpr q)⟩, rfl⟩))))
    · exact br_t e (S200 _ _ _ ft' fm (Or.inr ⟨fun q => k q.1, rfl⟩))
  have S154 : ∀ zt, fs_fl (fs_pair x4 x5) zt → wL_lawOf_154 post mc ms x0 x1 x2 x3 x4 x5 x7 x8 x9 x10 x11 x12 zg zt kc ks := by
    intro zt ft
    rcases hg with ⟨k, e⟩ | ⟨k, e⟩
    · exact br_f (by rw [e]; decide) (br_c (fun z => br_c (fun y => S178 _ _ ft (Or.inl ⟨⟨k, z, y⟩, rfl⟩)) (fun y => S178 _ _ ft (Or.inr ⟨fun q => y q.2.2, rfl⟩))) (fun z => S178 _ _ ft (Or.inr ⟨fun q => z q.2.1, rfl⟩)))
    · exact br_t e (S178 _ _ ft (Or.inr ⟨fun q => k q.1, rfl⟩))
  have no : ¬ fs_pair x4 x5 → wL_lawOf_153 post mc ms x0 x1 x2 x3 x4 x5 x7 x8 x9 x10 x11 x12 zg kc ks := fun n => S154 _ (Or.inr ⟨n, rfl⟩)
  exact br_c (fun z => no (fun q => (fs_pair_no q).1 z)) (fun z1 => br_c (fun z => no (fun q => (fs_pair_no q).2.1 z)) (fun z2 => br_c (fun z => no (fun q => (fs_pair_no q).2.2.1 z)) (fun z3 => br_c (fun z => no (fun q => (fs_pair_no q).2.2.2.1 z)) (fun z4 => br_c (fun z => no (fun q => (fs_pair_no q).2.2.2.2 z)) (fun z5 => S154 _ (Or.inl ⟨fs_pair_of z1 z2 z3 z4 z5, rfl⟩))))))
/-- what is good: an arc that is added -/
def fs_good (p q m : Int32) : Prop := fs_pair p q ∧ ¬ m < 0 ∧ m ≤ 99
theorem fs_goods {post : Int32 → St0 → Prop} {mc ms kc ks : Nat} {p0 p1 p2 p3 p4 p5 r0 r1 r2 r3 r4 r5 : Int32}
    (H : ∀ zg, fs_fl (fs_good p0 p1 p2) zg → wL_lawOf_116 post mc ms p0 p1 p2 p3 p4 p5 r0 r1 r2 r3 r4 r5 zg kc ks) :
    ((p0 < 0 → (wL_lawOf_115 post mc ms p0 p1 p2 p3 p4 p5 r0 r1 r2 r3 r4 r5 kc ks)) ∧ (¬ p0 < 0 → (((7 < p0 → (wL_lawOf_115 post mc ms p0 p1 p2 p3 p4 p5 r0 r1 r2 r3 r4 r5 kc ks)) ∧ (¬ 7 < p0 → (((p1 < 0 → (wL_lawOf_115 post mc ms p0 p1 p2 p3 p4 p5 r0 r1 r2 r3 r4 r5 kc ks)) ∧ (¬ p1 < 0 → (((7 < p1 → (wL_lawOf_115 post mc ms p0 p1 p2 p3 p4 p5 r0 r1 r2 r3 r4 r5 kc ks)) ∧ (¬ 7 < p1 → (((p0 = p1 → (wL_lawOf_115 post mc ms p0 p1 p2 p3 p4 p5 r0 r1 r2 r3 r4 r5 kc ks)) ∧ (¬ p0 = p1 → (((p2 < 0 → (wL_lawOf_115 post mc ms p0 p1 p2 p3 p4 p5 r0 r1 r2 r3 r4 r5 kc ks)) ∧ (¬ p2 < 0 → (((99 < p2 → (wL_lawOf_115 post mc ms p0 p1 p2 p3 p4 p5 r0 r1 r2 r3 r4 r5 kc ks)) ∧ (¬ 99 < p2 → (wL_lawOf_116 post mc ms p0 p1 p2 p3 p4 p5 r0 r1 r2 r3 r4 r5 1 kc ks))))))))))))))))))))) := by
  have no : ¬ fs_good p0 p1 p2 → wL_lawOf_115 post mc ms p0 p1 p2 p3 p4 p5 r0 r1 r2 r3 r4 r5 kc ks := fun n => H _ (Or.inr ⟨n, rfl⟩)
  exact br_c (fun z => no (fun q => (fs_pair_no q.1).1 z)) (fun z1 => br_c (fun z => no (fun q => (fs_pair_no q.1).2.1 z)) (fun z2 => br_c (fun z => no (fun q => (fs_pair_no q.1).2.2.1 z)) (fun z3 => br_c (fun z => no (fun q => (fs_pair_no q.1).2.2.2.1 z)) (fun z4 => br_c (fun z => no (fun q => (fs_pair_no q.1).2.2.2.2 z)) (fun z5 => br_c (fun z => no (fun q => q.2.1 z)) (fun z6 => br_c (fun z => no (fun q => fs_99.mp z q.2.2)) (fun z7 => H _ (Or.inl ⟨⟨fs_pair_of z1 z2 z3 z4 z5, z6, Decidable.byContradiction (fun q => z7 (fs_99.mpr q))⟩, rfl⟩))))))))
theorem fs_lawOf {post : Int32 → St0 → Prop} {u : St0} {p0 p1 p2 p3 p4 p5 : Int32} (hp : post 1 ()) : wpL_lawOf post 20 607 u p0 p1 p2 p3 p4 p5 := by
  unfold wpL_lawOf
  refine ⟨by decide, by decide, 19, 580, by decide, by decide, ?_⟩
  unfold wpX_init
  refine ⟨by decide, by decide, by decide, by decide, by decide, by decide, by decide, by decide, by decide, by decide, by decide, by decide, by decide, by decide, by decide, by decide, by decide, by decide, by decide, by decide, by decide, by decide, by decide, by decide, by decide, by decide, by decide, by decide, by decide, by decide, by decide, by decide, by decide, by decide, by decide, by decide, by decide, by decide, ?_⟩
  refine fs_add rfl (fun ng => ?_) (fun a b w ha hb hab hw9 ea eb ew fr' tp' ro' g1 g2 g3 => ?_)
  · have ho : fs_ob (fs_good p0 p1 p2) 0 0 0 (0 : Int32) (fun _ => 0) (fun _ => 0) (fun _ => 0) := Or.inr ⟨ng, rfl⟩
    have hw9 : 0 ≤ 99 := by omega
    have hx : fs_good p0 p1 p2 → p0 = nI 0 ∧ p1 = nI 0 ∧ p2 = nI 0 := fun z => absurd z ng
    have h7 : (fs_good p0 p1 p2 → (-1 : Int32) = 0) ∧ (¬ fs_good p0 p1 p2 → (-1 : Int32) = -1) := ⟨fun z => absurd z ng, fun _ => rfl⟩
    refine fs_value (ok := fs_good p0 p1 p2) (a := 0) (b := 0) (w := 0) ho (fun r1 _ _ _ _ _ _ _ _ _ _ _ _ _ _ _ _ _ _ _ _ _ _ _ h8 => ?_)
    refine fs_least (ok := fs_good p0 p1 p2) (a := 0) (b := 0) (w := 0) ho (fun r2 _ _ _ _ _ _ _ _ _ _ _ _ _ _ _ _ _ _ _ _ _ _ _ h9 => ?_)
    refine fs_wide (ok := fs_good p0 p1 p2) (a := 0) (b := 0) (w := 0) ho (fun r3 _ _ _ _ _ _ _ _ _ _ _ _ _ _ _ _ _ _ _ _ _ _ _ h10 => ?_)
    refine fs_thro (ok := fs_good p0 p1 p2) (a := 0) (b := 0) (w := 0) ho (fun r4 _ _ _ _ _ _ _ _ _ _ _ _ _ _ _ _ _ _ _ _ _ _ _ h11 => ?_)
    refine fs_few (ok := fs_good p0 p1 p2) (a := 0) (b := 0) (w := 0) ho (fun r5 _ _ _ _ _ _ _ _ _ _ _ _ _ _ _ _ _ _ _ _ _ _ _ h12 => ?_)
    exact fs_goods (fun zg hz => fs_fin hp hz hw9 hx h7 h8 h9 h10 h11 h12)
  · have hk : fs_good p0 p1 p2 := by
      rw [ea, eb, ew]
      exact ⟨fs_pr ha hb hab, nI_pos (by omega), nI_le (b := 99) hw9 (by omega)⟩
    have ho : fs_ob (fs_good p0 p1 p2) a b w (1 : Int32) fr' tp' ro' := Or.inl ⟨hk, rfl, g1, g2, g3, ha, hb, hab, hw9⟩
    have hx : fs_good p0 p1 p2 → p0 = nI a ∧ p1 = nI b ∧ p2 = nI w := fun _ => ⟨ea, eb, ew⟩
    have h7 : (fs_good p0 p1 p2 → (0 : Int32) = 0) ∧ (¬ fs_good p0 p1 p2 → (0 : Int32) = -1) := ⟨fun _ => rfl, fun z => absurd hk z⟩
    refine fs_value (ok := fs_good p0 p1 p2) (a := a) (b := b) (w := w) ho (fun r1 _ _ _ _ _ _ _ _ _ _ _ _ _ _ _ _ _ _ _ _ _ _ _ h8 => ?_)
    refine fs_least (ok := fs_good p0 p1 p2) (a := a) (b := b) (w := w) ho (fun r2 _ _ _ _ _ _ _ _ _ _ _ _ _ _ _ _ _ _ _ _ _ _ _ h9 => ?_)
    refine fs_wide (ok := fs_good p0 p1 p2) (a := a) (b := b) (w := w) ho (fun r3 _ _ _ _ _ _ _ _ _ _ _ _ _ _ _ _ _ _ _ _ _ _ _ h10 => ?_)
    refine fs_thro (ok := fs_good p0 p1 p2) (a := a) (b := b) (w := w) ho (fun r4 _ _ _ _ _ _ _ _ _ _ _ _ _ _ _ _ _ _ _ _ _ _ _ h11 => ?_)
    refine fs_few (ok := fs_good p0 p1 p2) (a := a) (b := b) (w := w) ho (fun r5 _ _ _ _ _ _ _ _ _ _ _ _ _ _ _ _ _ _ _ _ _ _ _ h12 => ?_)
    exact fs_goods (fun zg hz => fs_fin hp hz hw9 hx h7 h8 h9 h10 h11 h12)
theorem i_vc (xs : Nat → Int32) (L : Nat) (hL : L ≤ 6) : wpL_law (fun r => r = 1) L xs := by
  unfold wpL_law
  refine fs_cell (k := 0) hL (by omega) rfl (fun _ => fs_cell (k := 1) hL (by omega) rfl (fun _ => fs_cell (k := 2) hL (by omega) rfl (fun _ => fs_cell (k := 3) hL (by omega) rfl (fun _ => fs_cell (k := 4) hL (by omega) rfl (fun _ => fs_cell (k := 5) hL (by omega) rfl (fun _ => ⟨20, 607, by decide, by decide, fs_lawOf rfl⟩))))))
end
