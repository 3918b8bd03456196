section
/-! part 1: small rows; the small methods (isNode, isState, isStates, mayBe, leastUnder, addChild, sumOver, listNodes, isUnder) -/
theorem zt_u {f : Nat → Int32} {k k' : Nat} {x x' : Int32} (hk : k = k') (hx : x = x') : upd f k x = upd f k' x' := by rw [hk, hx]
theorem zt_uL {f : Nat → Int64} {k k' : Nat} {x x' : Int64} (hk : k = k') (hx : x = x') : vp_updL f k x = vp_updL f k' x' := by rw [hk, hx]
theorem zt_ix (a b : Nat) : (4 : Int32) * nI a + nI b = nI (4 * a + b) := by
  rw [show (4 : Int32) = nI 4 from rfl, pk_mul, nI_add]
theorem zt_cl {a b : Nat} (ha : a < 14) (hb : b < 4) : ((4 : Int32) * nI a + nI b).toNatClampNeg = 4 * a + b := by
  rw [zt_ix]
  exact nI_clamp (by omega)
theorem zt_in {a b N : Nat} (h : 4 * a + b < N) (hN : N < 2 ^ 31) : vp_in ((4 : Int32) * nI a + nI b) N := by
  rw [zt_ix]
  exact vp_in_nI h hN
def zt_mn (x y : Int32) : Int32 := if x ≤ y then x else y
/-- the least over the first i states t of C (s, t) + G t -/
def zt_lu (C G : Nat → Int32) (s : Nat) : Nat → Int32
  | 0 => 100000
  | i + 1 => zt_mn (zt_lu C G s i) (C (4 * s + i) + G i)
/-- the least over the first i places -/
def zt_bs (G : Nat → Int32) : Nat → Int32
  | 0 => 100000
  | i + 1 => zt_mn (zt_bs G i) (G i)
/-- the sum over the first i states t of R (s, t) * G t -/
def zt_so (R : Nat → Int32) (G : Nat → Int64) (s : Nat) : Nat → Int64
  | 0 => 0
  | i + 1 => zt_so R G s i + (R (4 * s + i)).toInt64 * G i
def zt_sm (G : Nat → Int64) : Nat → Int64
  | 0 => 0
  | i + 1 => zt_sm G i + G i
def zt_C (j : Nat) : Int32 := if j / 4 = j % 4 then 0 else 1
def zt_leaf (p s : Nat) : Int32 := if p = s then 0 else 100000
def zt_one (p s : Nat) : Int64 := if p = s then 1 else 0
section
variable {lc ic tp ls : Int32} {a1 a2 a3 a4 a5 a6 a7 a8 a9 a10 a11 : Nat → Int32} {a12 : Nat → Int64} {a13 : Nat → Int32}
theorem zt_isState {post : Int32 → Prop} {x : Int32} (h0 : ¬ x < 0) (h3 : ¬ 3 < x) (hp : post 1) : wpX_isState post () x := br_f h0 (br_f h3 hp)
theorem zt_isStates {post : Int32 → Prop} {x : Int32} (h0 : ¬ x < 0) (h3 : ¬ 255 < x) (hp : post 1) : wpX_isStates post () x := br_f h0 (br_f h3 hp)
theorem zt_isNodeL {post : Int32 → Prop} {x : Int32} (h0 : ¬ x < 0) (h1 : x < lc) (hp : post 1) : wpX_isNode post (lc, ic, tp, ls, a1, a2, a3, a4, a5, a6, a7, a8, a9, a10, a11, a12, a13) x := br_f h0 (br_t h1 hp)
theorem zt_isNodeI {post : Int32 → Prop} {x : Int32} (h0 : ¬ x < 0) (h1 : ¬ x < lc) (h2 : ¬ x < 8) (h3 : ¬ 8 + ic ≤ x) (hp : post 1) : wpX_isNode post (lc, ic, tp, ls, a1, a2, a3, a4, a5, a6, a7, a8, a9, a10, a11, a12, a13) x :=
  br_f h0 (br_f h1 (br_f h2 (br_f h3 hp)))
theorem zt_mayBeI {post : Int32 → Prop} {x p1 p2 : Int32} (hx : ¬ x < 8) (hp : post 1) : wpX_mayBe post (lc, ic, tp, ls, a1, a2, a3, a4, a5, a6, a7, a8, a9, a10, a11, a12, a13) x p1 p2 := br_f hx hp
theorem zt_mayBeL {post : Int32 → Prop} {x V s : Nat} (hx : x < 7) (hV : V < 256) (hs : s < 4) (h4 : a4 x = nI V) (h1 : V / 16 % 4 = s → post 1) (h0 : V / 16 % 4 ≠ s → post 0) :
    wpX_mayBe post (lc, ic, tp, ls, a1, a2, a3, a4, a5, a6, a7, a8, a9, a10, a11, a12, a13) (nI x) 1 (nI s) := by
  refine br_t (nI_lt (b := 8) (by omega) (by decide)) ⟨vp_in_nI hx (by decide), nm_r (e' := nI V) (by rw [nI_clamp (by omega)]; exact h4) ⟨3, ?_⟩⟩
  refine br_f (by decide) ⟨by decide, nm_r (pk_div (a := V) (d := 4) (by omega) (by omega) (by omega)) (nm_r (e' := 2) (by decide) ?_)⟩
  refine br_f (by decide) ⟨by decide, nm_r (pk_div (a := V / 4) (d := 4) (by omega) (by omega) (by omega)) (nm_r (e' := 1) (by decide) ?_)⟩
  refine br_t (by decide) ⟨by decide, ?_⟩
  exact pk_eq (V / 4 / 4 % 4) s (fun e => h1 (by omega)) (fun e => h0 (by omega)) (pk_rem (a := V / 4 / 4) (d := 4) (by omega) (by omega) (by omega)) rfl (by omega) (by omega)
theorem zt_leastUnder {post : Int32 → Prop} {G : Nat → Int32} {c s : Nat} (hc : c < 14) (hs : s < 4) (hG : ∀ t, t < 4 → a9 (4 * c + t) = G t) (hp : post (zt_lu a5 G s 4)) :
    wpX_leastUnder post (lc, ic, tp, ls, a1, a2, a3, a4, a5, a6, a7, a8, a9, a10, a11, a12, a13) (nI c) (nI s) :=
  pk_loop (fun n i v => wX_leastUnder_6 post (nI c) (nI s) lc ic tp ls a1 a2 a3 a4 a5 a6 a7 a8 a9 a10 a11 a12 a13 n v (nI i)) (fun i v => v = zt_lu a5 G s i) 4 0 100000 (by omega) rfl
    (fun n v h => br_t (by decide) (by rw [h]; exact hp))
    (fun n i v hi h hw => br_f (nI_ge (b := 4) hi (by decide)) ⟨zt_in (by omega) (by decide), zt_in (by omega) (by decide),
      nm_r (e' := a5 (4 * s + i) + G i) (by rw [zt_cl (by omega) hi, zt_cl hc hi, hG i hi])
        (br_c (fun z => nm_r (nI_1 i) (hw _ (by show v = zt_mn (zt_lu a5 G s i) _; rw [← h]; exact (if_pos z).symm)))
          (fun z => nm_r (nI_1 i) (hw _ (by show _ = zt_mn (zt_lu a5 G s i) _; rw [← h]; exact (if_neg z).symm))))⟩)
theorem zt_addChild {post : St2 → Prop} {G : Nat → Int32} {x s c : Nat} {c' : Int32} (hx : x < 14) (hs : s < 4) (hc : c < 14) (hc' : c' = nI c) (hG : ∀ t, t < 4 → a9 (4 * c + t) = G t)
    (hp : ∀ b10, post (lc, ic, tp, ls, a1, a2, a3, a4, a5, a6, a7, a8, upd a9 (4 * x + s) (a9 (4 * x + s) + zt_lu a5 G s 4), b10, a11, a12, a13)) :
    wpX_addChild post (lc, ic, tp, ls, a1, a2, a3, a4, a5, a6, a7, a8, a9, a10, a11, a12, a13) (nI x) (nI s) c' := by
  subst hc'
  refine zt_leastUnder hc hs hG ?_
  refine pk_loop (fun n i v => wX_addChild_14 post (nI x) (nI s) (nI c) (zt_lu a5 G s 4) lc ic tp ls a1 a2 a3 a4 a5 a6 a7 a8 a9 a10 a11 a12 a13 n v (nI i)) (fun _ _ => True) 4 0 0 (by omega) trivial ?_ ?_
  · intro n v _
    exact br_t (by decide) ⟨zt_in (by omega) (by decide), zt_in (by omega) (by decide), nm_r (zt_u (zt_cl hx hs) (by rw [zt_cl hx hs])) ⟨zt_in (by omega) (by decide), zt_in (by omega) (by decide), nm_e (hp _)⟩⟩
  · intro n i v hi _ hw
    exact br_f (nI_ge (b := 4) hi (by decide)) ⟨zt_in (by omega) (by decide), zt_in (by omega) (by decide),
      br_c (fun _ => ⟨zt_in (by omega) (by decide), nm_e (nm_r (nI_1 i) (hw _ trivial))⟩) (fun _ => nm_e (nm_r (nI_1 i) (hw _ trivial)))⟩
theorem zt_sumOver {post : Int64 → Prop} {G : Nat → Int64} {c s : Nat} {c' : Int32} (hc : c < 14) (hs : s < 4) (hc' : c' = nI c) (hG : ∀ t, t < 4 → a12 (4 * c + t) = G t) (hp : post (zt_so a6 G s 4)) :
    wpX_sumOver post (lc, ic, tp, ls, a1, a2, a3, a4, a5, a6, a7, a8, a9, a10, a11, a12, a13) c' (nI s) := by
  subst hc'
  exact pk_loop (fun n i v => wX_sumOver_5 post (nI c) (nI s) lc ic tp ls a1 a2 a3 a4 a5 a6 a7 a8 a9 a10 a11 a12 a13 n v (nI i)) (fun i v => v = zt_so a6 G s i) 4 0 0 (by omega) rfl
    (fun n v h => br_t (by decide) (by rw [h]; exact hp))
    (fun n i v hi h hw => br_f (nI_ge (b := 4) hi (by decide)) ⟨zt_in (by omega) (by decide), zt_in (by omega) (by decide),
      nm_r (e' := zt_so a6 G s (i + 1)) (by rw [zt_cl (by omega) hi, zt_cl hc hi, hG i hi, h]; rfl) (nm_r (nI_1 i) (hw _ rfl))⟩)
/-- the order in which the tree 8 (0, 9 (1, 2)) is listed -/
theorem zt_listNodes {post : St2 → Prop} (h28 : a2 8 = 0) (h38 : a3 8 = 9) (h29 : a2 9 = 1) (h39 : a3 9 = 2)
    (hp : ∀ b7 : Nat → Int32, b7 0 = 8 → b7 1 = 0 → b7 2 = 9 → b7 3 = 1 → b7 4 = 2 → post (lc, ic, 8, 5, a1, a2, a3, a4, a5, a6, b7, a8, a9, a10, a11, a12, a13)) : wpX_listNodes post (lc, ic, 8, ls, a1, a2, a3, a4, a5, a6, a7, a8, a9, a10, a11, a12, a13) := by
  refine nm_e ⟨6, ?_⟩
  refine br_f (by decide) (br_f (by decide) ⟨vp_in_iff.mpr (by decide), nm_r (e' := 8) rfl ?_⟩)
  refine br_f (by decide) ⟨vp_in_iff.mpr (by decide), vp_in_iff.mpr (by decide), nm_r (zt_u (k' := 1) rfl h28) ⟨vp_in_iff.mpr (by decide), vp_in_iff.mpr (by decide), nm_r (zt_u (k' := 2) rfl h38) (nm_r (e' := 3) rfl (nm_r (e' := 1) rfl ?_))⟩⟩
  refine br_f (by decide) (br_f (by decide) ⟨vp_in_iff.mpr (by decide), nm_r (e' := 0) rfl ?_⟩)
  refine br_t (by decide) (nm_r (e' := 2) rfl ?_)
  refine br_f (by decide) (br_f (by decide) ⟨vp_in_iff.mpr (by decide), nm_r (e' := 9) rfl ?_⟩)
  refine br_f (by decide) ⟨vp_in_iff.mpr (by decide), vp_in_iff.mpr (by decide), nm_r (zt_u (k' := 3) rfl h29) ⟨vp_in_iff.mpr (by decide), vp_in_iff.mpr (by decide), nm_r (zt_u (k' := 4) rfl h39) (nm_r (e' := 5) rfl (nm_r (e' := 3) rfl ?_))⟩⟩
  refine br_f (by decide) (br_f (by decide) ⟨vp_in_iff.mpr (by decide), nm_r (e' := 1) rfl ?_⟩)
  refine br_t (by decide) (nm_r (e' := 4) rfl ?_)
  refine br_f (by decide) (br_f (by decide) ⟨vp_in_iff.mpr (by decide), nm_r (e' := 2) rfl ?_⟩)
  refine br_t (by decide) (nm_r (e' := 5) rfl ?_)
  exact br_f (by decide) (br_t (by decide) (hp _ rfl rfl rfl rfl rfl))
end
end
section
/-! part 2: leastFor, least -/
/-- a row of an inner node: G and H are its children's rows -/
def zt_row (C G H : Nat → Int32) (s : Nat) : Int32 := 0 + zt_lu C G s 4 + zt_lu C H s 4
section
variable {lc ic tp ls : Int32} {a1 a2 a3 a4 a5 a6 a7 a8 a9 a10 a11 : Nat → Int32} {a12 : Nat → Int64} {a13 : Nat → Int32}
theorem zt_lf85L {post : Int32 → St2 → Prop} {J11 J25 : Int32 → Int32 → Int32 → Int32 → Int32 → (Nat → Int32) → (Nat → Int32) → (Nat → Int32) → (Nat → Int32) → (Nat → Int32) → (Nat → Int32) → (Nat → Int32) → (Nat → Int32) → (Nat → Int32) → (Nat → Int32) → (Nat → Int32) → (Nat → Int64) → (Nat → Int32) → Prop} {x1 x2 x3 x4 z0 z1 : Int32} (hx : x3 < 8) (hz : vp_in z1 56) (h : ∀ b10, J25 (x4 + 1) lc ic tp ls a1 a2 a3 a4 a5 a6 a7 a8 a9 b10 a11 a12 a13) :
    wX_leastFor_85 post J11 J25 x1 x2 x3 x4 z0 z1 lc ic tp ls a1 a2 a3 a4 a5 a6 a7 a8 a9 a10 a11 a12 a13 := ⟨hz, nm_e (br_t hx (nm_e (h _)))⟩
theorem zt_lf58L {post : Int32 → St2 → Prop} {J11 J25 : Int32 → Int32 → Int32 → Int32 → Int32 → (Nat → Int32) → (Nat → Int32) → (Nat → Int32) → (Nat → Int32) → (Nat → Int32) → (Nat → Int32) → (Nat → Int32) → (Nat → Int32) → (Nat → Int32) → (Nat → Int32) → (Nat → Int32) → (Nat → Int64) → (Nat → Int32) → Prop} {x V i : Nat} {x2 z0 : Int32} (hx : x < 7) (hV : V < 256) (hi : i < 4) (h4 : a4 x = nI V)
    (h : ∀ b10, J25 (nI i + 1) lc ic tp ls a1 a2 a3 a4 a5 a6 a7 a8 (upd a9 (4 * x + i) z0) b10 a11 a12 a13) :
    wX_leastFor_58 post J11 J25 1 x2 (nI x) (nI i) z0 (4 * nI x + nI i) lc ic tp ls a1 a2 a3 a4 a5 a6 a7 a8 a9 a10 a11 a12 a13 := by
  have hx8 : nI x < 8 := nI_lt (b := 8) (by omega) (by decide)
  refine ⟨zt_in (by omega) (by decide), nm_r (zt_u (zt_cl (by omega) hi) rfl) ?_⟩
  exact zt_mayBeL hx hV hi h4 (fun _ => br_f (by decide) (zt_lf85L hx8 (zt_in (by omega) (by decide)) h)) (fun _ => br_t rfl (zt_lf85L hx8 (zt_in (by omega) (by decide)) h))
/-- a row is filled, place by place -/
theorem zt_fill {f g b : Nat → Int32} {F : Nat → Int32} {x i : Nat} (h : (∀ s, s < i → f (4 * x + s) = F s) ∧ (∀ j, j < 4 * x ∨ 4 * x + 4 ≤ j → f j = b j)) (hi : i < 4)
    (h1 : g (4 * x + i) = F i) (h2 : ∀ j, j ≠ 4 * x + i → g j = f j) : (∀ s, s < i + 1 → g (4 * x + s) = F s) ∧ (∀ j, j < 4 * x ∨ 4 * x + 4 ≤ j → g j = b j) := by
  refine ⟨fun s hs => ?_, fun j hj => ?_⟩
  · by_cases e : s = i
    · rw [e, h1]
    · rw [h2 _ (by omega)]
      exact h.1 s (by omega)
  · rw [h2 j (by omega)]
    exact h.2 j hj
theorem zt_lf25L {post : Int32 → St2 → Prop} {J11 : Int32 → Int32 → Int32 → Int32 → Int32 → (Nat → Int32) → (Nat → Int32) → (Nat → Int32) → (Nat → Int32) → (Nat → Int32) → (Nat → Int32) → (Nat → Int32) → (Nat → Int32) → (Nat → Int32) → (Nat → Int32) → (Nat → Int32) → (Nat → Int64) → (Nat → Int32) → Prop} {x V : Nat} {x2 y2 : Int32} (hx : x < 7) (hV : V < 256) (h4 : a4 x = nI V) (hy : x2 + (-1) = y2)
    (hJ : ∀ b9 b10, (∀ s, s < 4 → b9 (4 * x + s) = zt_leaf (V / 16 % 4) s) → (∀ j, j < 4 * x ∨ 4 * x + 4 ≤ j → b9 j = a9 j) → J11 y2 lc ic tp ls a1 a2 a3 a4 a5 a6 a7 a8 b9 b10 a11 a12 a13) :
    ∃ n, wX_leastFor_25 post J11 1 x2 (nI x) n 0 lc ic tp ls a1 a2 a3 a4 a5 a6 a7 a8 a9 a10 a11 a12 a13 := by
  refine pk_loop (fun n i (S : (Nat → Int32) × (Nat → Int32)) => wX_leastFor_25 post J11 1 x2 (nI x) n (nI i) lc ic tp ls a1 a2 a3 a4 a5 a6 a7 a8 S.1 S.2 a11 a12 a13)
    (fun i S => (∀ s, s < i → S.1 (4 * x + s) = zt_leaf (V / 16 % 4) s) ∧ (∀ j, j < 4 * x ∨ 4 * x + 4 ≤ j → S.1 j = a9 j)) 4 0 (a9, a10) (by omega) ⟨fun s h => absurd h (by omega), fun _ _ => rfl⟩ ?_ ?_
  · intro n S h
    exact br_t (by decide) (nm_r hy (hJ S.1 S.2 h.1 h.2))
  · intro n i S hi h hw
    have step : ∀ z0 : Int32, z0 = zt_leaf (V / 16 % 4) i → ∀ b10, wX_leastFor_25 post J11 1 x2 (nI x) n (nI i + 1) lc ic tp ls a1 a2 a3 a4 a5 a6 a7 a8 (upd S.1 (4 * x + i) z0) b10 a11 a12 a13 := by
      intro z0 hz b10
      rw [nI_1]
      exact hw (upd S.1 (4 * x + i) z0, b10) (zt_fill h hi (by rw [← hz]; exact pk_us) (fun j hj => pk_un hj))
    refine br_f (nI_ge (b := 4) hi (by decide)) (zt_mayBeL hx hV hi h4 (fun e => br_f (by decide) ?_) (fun e => br_t rfl ?_))
    · exact zt_lf58L hx hV hi h4 (step 0 (by unfold zt_leaf; rw [if_pos e]))
    · exact zt_lf58L hx hV hi h4 (step 100000 (by unfold zt_leaf; rw [if_neg e]))
theorem zt_lf85I {post : Int32 → St2 → Prop} {J11 J25 : Int32 → Int32 → Int32 → Int32 → Int32 → (Nat → Int32) → (Nat → Int32) → (Nat → Int32) → (Nat → Int32) → (Nat → Int32) → (Nat → Int32) → (Nat → Int32) → (Nat → Int32) → (Nat → Int32) → (Nat → Int32) → (Nat → Int32) → (Nat → Int64) → (Nat → Int32) → Prop} {x i c d : Nat} {x1 x2 z0 z1 : Int32} {G H : Nat → Int32} (hx : 8 ≤ x) (hx' : x < 14) (hi : i < 4) (hz : vp_in z1 56)
    (hc : c < 14) (hd : d < 14) (hdx : d ≠ x) (h2 : a2 x = nI c) (h3 : a3 x = nI d) (hG : ∀ t, t < 4 → a9 (4 * c + t) = G t) (hH : ∀ t, t < 4 → a9 (4 * d + t) = H t) (h0 : a9 (4 * x + i) = 0)
    (h : ∀ b9 b10, b9 (4 * x + i) = zt_row a5 G H i → (∀ j, j ≠ 4 * x + i → b9 j = a9 j) → J25 (nI i + 1) lc ic tp ls a1 a2 a3 a4 a5 a6 a7 a8 b9 b10 a11 a12 a13) :
    wX_leastFor_85 post J11 J25 x1 x2 (nI x) (nI i) z0 z1 lc ic tp ls a1 a2 a3 a4 a5 a6 a7 a8 a9 a10 a11 a12 a13 := by
  have hn : ¬ nI x < 8 := nI_nlt (b := 8) hx (by omega)
  have hin : vp_in (nI x) 14 := vp_in_nI hx' (by decide)
  refine ⟨hz, nm_e (br_f hn ⟨hin, ?_⟩)⟩
  refine zt_addChild (G := G) hx' hi hc (by rw [nI_clamp (by omega)]; exact h2) hG (fun b10 => ⟨hin, ?_⟩)
  refine zt_addChild (G := H) hx' hi hd (by rw [nI_clamp (by omega)]; exact h3) (fun t ht => ?_) (fun b10' => nm_e ?_)
  · rw [pk_un (by omega)]
    exact hH t ht
  · refine h _ _ ?_ (fun j hj => ?_)
    · rw [pk_us, pk_us, h0]
      rfl
    · rw [pk_un hj, pk_un hj]
theorem zt_lf25I {post : Int32 → St2 → Prop} {J11 : Int32 → Int32 → Int32 → Int32 → Int32 → (Nat → Int32) → (Nat → Int32) → (Nat → Int32) → (Nat → Int32) → (Nat → Int32) → (Nat → Int32) → (Nat → Int32) → (Nat → Int32) → (Nat → Int32) → (Nat → Int32) → (Nat → Int32) → (Nat → Int64) → (Nat → Int32) → Prop} {x c d : Nat} {x2 y2 : Int32} {G H : Nat → Int32} (hx : 8 ≤ x) (hx' : x < 14) (hc : c < 14) (hd : d < 14) (hcx : c ≠ x) (hdx : d ≠ x)
    (h2 : a2 x = nI c) (h3 : a3 x = nI d) (hG : ∀ t, t < 4 → a9 (4 * c + t) = G t) (hH : ∀ t, t < 4 → a9 (4 * d + t) = H t) (hy : x2 + (-1) = y2)
    (hJ : ∀ b9 b10, (∀ s, s < 4 → b9 (4 * x + s) = zt_row a5 G H s) → (∀ j, j < 4 * x ∨ 4 * x + 4 ≤ j → b9 j = a9 j) → J11 y2 lc ic tp ls a1 a2 a3 a4 a5 a6 a7 a8 b9 b10 a11 a12 a13) :
    ∃ n, wX_leastFor_25 post J11 1 x2 (nI x) n 0 lc ic tp ls a1 a2 a3 a4 a5 a6 a7 a8 a9 a10 a11 a12 a13 := by
  have hn : ¬ nI x < 8 := nI_nlt (b := 8) hx (by omega)
  refine pk_loop (fun n i (S : (Nat → Int32) × (Nat → Int32)) => wX_leastFor_25 post J11 1 x2 (nI x) n (nI i) lc ic tp ls a1 a2 a3 a4 a5 a6 a7 a8 S.1 S.2 a11 a12 a13)
    (fun i S => (∀ s, s < i → S.1 (4 * x + s) = zt_row a5 G H s) ∧ (∀ j, j < 4 * x ∨ 4 * x + 4 ≤ j → S.1 j = a9 j)) 4 0 (a9, a10) (by omega) ⟨fun s h => absurd h (by omega), fun _ _ => rfl⟩ ?_ ?_
  · intro n S h
    exact br_t (by decide) (nm_r hy (hJ S.1 S.2 h.1 h.2))
  · intro n i S hi h hw
    refine br_f (nI_ge (b := 4) hi (by decide)) (zt_mayBeI hn (br_f (by decide) ?_))
    refine ⟨zt_in (by omega) (by decide), nm_r (zt_u (zt_cl hx' hi) rfl) (zt_mayBeI hn (br_f (by decide) ?_))⟩
    refine zt_lf85I (G := G) (H := H) hx hx' hi (zt_in (by omega) (by decide)) hc hd hdx h2 h3 (fun t ht => ?_) (fun t ht => ?_) pk_us (fun b9 b10 e1 e2 => ?_)
    · rw [pk_un (by omega), h.2 _ (by omega)]
      exact hG t ht
    · rw [pk_un (by omega), h.2 _ (by omega)]
      exact hH t ht
    · rw [nI_1]
      exact hw (b9, b10) (zt_fill h hi e1 (fun j hj => (e2 j hj).trans (pk_un hj)))
theorem zt_lf135 {post : Int32 → St2 → Prop} {G : Nat → Int32} {x : Nat} (hx : x < 14) (hG : ∀ t, t < 4 → a9 (4 * x + t) = G t) (hp : post (zt_bs G 4) (lc, ic, nI x, ls, a1, a2, a3, a4, a5, a6, a7, a8, a9, a10, a11, a12, a13)) :
    ∃ n, wX_leastFor_135 post lc ic (nI x) ls a1 a2 a3 a4 a5 a6 a7 a8 a9 a10 a11 a12 a13 n 100000 0 :=
  pk_loop (fun n i v => wX_leastFor_135 post lc ic (nI x) ls a1 a2 a3 a4 a5 a6 a7 a8 a9 a10 a11 a12 a13 n v (nI i)) (fun i v => v = zt_bs G i) 4 0 100000 (by omega) rfl
    (fun n v h => br_t (by decide) (by rw [h]; exact hp))
    (fun n i v hi h hw => br_f (nI_ge (b := 4) hi (by decide)) ⟨zt_in (by omega) (by decide),
      br_c (fun z => nm_r (nI_1 i) (hw _ (by
          rw [zt_cl hx hi, hG i hi] at z
          show v = zt_mn (zt_bs G i) _
          rw [← h]
          exact (if_pos z).symm)))
        (fun z => ⟨zt_in (by omega) (by decide), nm_r (e' := G i) (by rw [zt_cl hx hi, hG i hi]) (nm_r (nI_1 i) (hw _ (by
          rw [zt_cl hx hi, hG i hi] at z
          show _ = zt_mn (zt_bs G i) _
          rw [← h]
          exact (if_neg z).symm)))⟩)⟩)
/-- the least cost of a site, over the leaves' states p (leaf 0), q (leaf 1), z (leaf 2) -/
def zt_least (C : Nat → Int32) (p q z : Nat) : Int32 := zt_bs (zt_row C (zt_leaf p) (zt_row C (zt_leaf q) (zt_leaf z))) 4
theorem zt_least11 {post : Int32 → St2 → Prop} {V0 V1 V2 : Nat} (hV0 : V0 < 256) (hV1 : V1 < 256) (hV2 : V2 < 256) (h40 : a4 0 = nI V0) (h41 : a4 1 = nI V1) (h42 : a4 2 = nI V2)
    (h28 : a2 8 = 0) (h38 : a3 8 = 9) (h29 : a2 9 = 1) (h39 : a3 9 = 2) (h70 : a7 0 = 8) (h71 : a7 1 = 0) (h72 : a7 2 = 9) (h73 : a7 3 = 1) (h74 : a7 4 = 2)
    (hp : ∀ b9 b10, post (zt_least a5 (V0 / 16 % 4) (V1 / 16 % 4) (V2 / 16 % 4)) (lc, ic, 8, ls, a1, a2, a3, a4, a5, a6, a7, a8, b9, b10, a11, a12, a13)) :
    ∃ n, wX_leastFor_11 post 1 n 4 lc ic 8 ls a1 a2 a3 a4 a5 a6 a7 a8 a9 a10 a11 a12 a13 := by
  refine ⟨6, br_f (by decide) ⟨vp_in_iff.mpr (by decide), nm_r (e' := nI 2) h74 (zt_lf25L (x := 2) (y2 := 3) (by omega) hV2 h42 (by decide) (fun f2 g2 r2 o2 => ?_))⟩⟩
  refine br_f (by decide) ⟨vp_in_iff.mpr (by decide), nm_r (e' := nI 1) h73 (zt_lf25L (x := 1) (y2 := 2) (by omega) hV1 h41 (by decide) (fun f1 g1 r1 o1 => ?_))⟩
  refine br_f (by decide) ⟨vp_in_iff.mpr (by decide), nm_r (e' := nI 9) h72 (zt_lf25I (x := 9) (c := 1) (d := 2) (y2 := 1) (G := zt_leaf (V1 / 16 % 4)) (H := zt_leaf (V2 / 16 % 4)) (by omega) (by omega) (by omega) (by omega) (by omega) (by omega) h29 h39
    r1 (fun t ht => by rw [o1 _ (by omega)]; exact r2 t ht) (by decide) (fun f9 g9 r9 o9 => ?_))⟩
  refine br_f (by decide) ⟨vp_in_iff.mpr (by decide), nm_r (e' := nI 0) h71 (zt_lf25L (x := 0) (y2 := 0) (by omega) hV0 h40 (by decide) (fun f0 g0 r0 o0 => ?_))⟩
  refine br_f (by decide) ⟨vp_in_iff.mpr (by decide), nm_r (e' := nI 8) h70 (zt_lf25I (x := 8) (c := 0) (d := 9) (y2 := -1) (G := zt_leaf (V0 / 16 % 4)) (H := zt_row a5 (zt_leaf (V1 / 16 % 4)) (zt_leaf (V2 / 16 % 4))) (by omega) (by omega) (by omega) (by omega) (by omega) (by omega) h28 h38
    r0 (fun t ht => by rw [o0 _ (by omega)]; exact r9 t ht) (by decide) (fun f8 g8 r8 o8 => ?_))⟩
  exact br_t (by decide) (zt_lf135 (x := 8) (by omega) r8 (hp f8 g8))
theorem zt_leastW {post : Int32 → St2 → Prop} {V0 V1 V2 : Nat} (hV0 : V0 < 256) (hV1 : V1 < 256) (hV2 : V2 < 256) (h40 : a4 0 = nI V0) (h41 : a4 1 = nI V1) (h42 : a4 2 = nI V2)
    (h28 : a2 8 = 0) (h38 : a3 8 = 9) (h29 : a2 9 = 1) (h39 : a3 9 = 2)
    (hp : ∀ b7 b9 b10, post (zt_least a5 (V0 / 16 % 4) (V1 / 16 % 4) (V2 / 16 % 4)) (lc, ic, 8, 5, a1, a2, a3, a4, a5, a6, b7, a8, b9, b10, a11, a12, a13)) :
    wpX_least post (lc, ic, 8, ls, a1, a2, a3, a4, a5, a6, a7, a8, a9, a10, a11, a12, a13) 1 := by
  unfold wpX_least
  refine zt_isState (by decide) (by decide) (br_f (by decide) ?_)
  unfold wpX_leastFor
  refine zt_listNodes h28 h38 h29 h39 (fun b7 e0 e1 e2 e3 e4 => nm_r (e' := 4) (by decide) ?_)
  exact zt_least11 hV0 hV1 hV2 h40 h41 h42 h28 h38 h29 h39 e0 e1 e2 e3 e4 (fun b9 b10 => hp b7 b9 b10)
end
end
section
/-! part 3: weight -/
/-- a row of sums of an inner node: G and H are its children's rows -/
def zt_rowL (R : Nat → Int32) (G H : Nat → Int64) (s : Nat) : Int64 := zt_so R G s 4 * zt_so R H s 4
section
variable {lc ic tp ls : Int32} {a1 a2 a3 a4 a5 a6 a7 a8 a9 a10 a11 : Nat → Int32} {a12 : Nat → Int64} {a13 : Nat → Int32}
theorem zt_fillL {f g b : Nat → Int64} {F : Nat → Int64} {x i : Nat} (h : (∀ s, s < i → f (4 * x + s) = F s) ∧ (∀ j, j < 4 * x ∨ 4 * x + 4 ≤ j → f j = b j)) (hi : i < 4)
    (h1 : g (4 * x + i) = F i) (h2 : ∀ j, j ≠ 4 * x + i → g j = f j) : (∀ s, s < i + 1 → g (4 * x + s) = F s) ∧ (∀ j, j < 4 * x ∨ 4 * x + 4 ≤ j → g j = b j) := by
  refine ⟨fun s hs => ?_, fun j hj => ?_⟩
  · by_cases e : s = i
    · rw [e, h1]
    · rw [h2 _ (by omega)]
      exact h.1 s (by omega)
  · rw [h2 j (by omega)]
    exact h.2 j hj
theorem zt_w36L {post : Int64 → St2 → Prop} {J22 : Int32 → (Nat → Int32) → (Nat → Int32) → (Nat → Int32) → (Nat → Int32) → (Nat → Int32) → (Nat → Int32) → (Nat → Int32) → (Nat → Int32) → (Nat → Int32) → (Nat → Int32) → (Nat → Int32) → (Nat → Int64) → (Nat → Int32) → Prop} {x V : Nat} {x2 y2 : Int32} (hx : x < 7) (hV : V < 256) (h4 : a4 x = nI V) (hy : x2 + (-1) = y2)
    (hJ : ∀ b12, (∀ s, s < 4 → b12 (4 * x + s) = zt_one (V / 16 % 4) s) → (∀ j, j < 4 * x ∨ 4 * x + 4 ≤ j → b12 j = a12 j) → J22 y2 a1 a2 a3 a4 a5 a6 a7 a8 a9 a10 a11 b12 a13) :
    ∃ n, wX_weight_36 post J22 1 x2 (nI x) lc ic tp ls n 0 a1 a2 a3 a4 a5 a6 a7 a8 a9 a10 a11 a12 a13 := by
  have hx8 : nI x < 8 := nI_lt (b := 8) (by omega) (by decide)
  refine pk_loop (fun n i (S : Nat → Int64) => wX_weight_36 post J22 1 x2 (nI x) lc ic tp ls n (nI i) a1 a2 a3 a4 a5 a6 a7 a8 a9 a10 a11 S a13)
    (fun i S => (∀ s, s < i → S (4 * x + s) = zt_one (V / 16 % 4) s) ∧ (∀ j, j < 4 * x ∨ 4 * x + 4 ≤ j → S j = a12 j)) 4 0 a12 (by omega) ⟨fun s h => absurd h (by omega), fun _ _ => rfl⟩ ?_ ?_
  · intro n S h
    exact br_t (by decide) (nm_r hy (hJ S h.1 h.2))
  · intro n i S hi h hw
    refine br_f (nI_ge (b := 4) hi (by decide)) (br_t hx8 (br_t hx8 (zt_mayBeL hx hV hi h4 (fun e => br_f (by decide) ?_) (fun e => br_t rfl ?_))))
    · refine ⟨zt_in (by omega) (by decide), nm_r (zt_uL (zt_cl (by omega) hi) rfl) (nm_r (nI_1 i) (hw _ (zt_fillL h hi ?_ (fun j hj => pk_uLn hj))))⟩
      rw [pk_uLs]
      unfold zt_one
      rw [if_pos e]
      decide
    · refine ⟨zt_in (by omega) (by decide), nm_r (zt_uL (zt_cl (by omega) hi) rfl) (nm_r (nI_1 i) (hw _ (zt_fillL h hi ?_ (fun j hj => pk_uLn hj))))⟩
      rw [pk_uLs]
      unfold zt_one
      rw [if_neg e]
theorem zt_w36I {post : Int64 → St2 → Prop} {J22 : Int32 → (Nat → Int32) → (Nat → Int32) → (Nat → Int32) → (Nat → Int32) → (Nat → Int32) → (Nat → Int32) → (Nat → Int32) → (Nat → Int32) → (Nat → Int32) → (Nat → Int32) → (Nat → Int32) → (Nat → Int64) → (Nat → Int32) → Prop} {x c d : Nat} {x2 y2 : Int32} {G H : Nat → Int64} (hx : 8 ≤ x) (hx' : x < 14) (hc : c < 14) (hd : d < 14) (hcx : c ≠ x) (hdx : d ≠ x)
    (h2 : a2 x = nI c) (h3 : a3 x = nI d) (hG : ∀ t, t < 4 → a12 (4 * c + t) = G t) (hH : ∀ t, t < 4 → a12 (4 * d + t) = H t) (hy : x2 + (-1) = y2)
    (hJ : ∀ b12, (∀ s, s < 4 → b12 (4 * x + s) = zt_rowL a6 G H s) → (∀ j, j < 4 * x ∨ 4 * x + 4 ≤ j → b12 j = a12 j) → J22 y2 a1 a2 a3 a4 a5 a6 a7 a8 a9 a10 a11 b12 a13) :
    ∃ n, wX_weight_36 post J22 1 x2 (nI x) lc ic tp ls n 0 a1 a2 a3 a4 a5 a6 a7 a8 a9 a10 a11 a12 a13 := by
  have hn : ¬ nI x < 8 := nI_nlt (b := 8) hx (by omega)
  have hin : vp_in (nI x) 14 := vp_in_nI hx' (by decide)
  refine pk_loop (fun n i (S : Nat → Int64) => wX_weight_36 post J22 1 x2 (nI x) lc ic tp ls n (nI i) a1 a2 a3 a4 a5 a6 a7 a8 a9 a10 a11 S a13)
    (fun i S => (∀ s, s < i → S (4 * x + s) = zt_rowL a6 G H s) ∧ (∀ j, j < 4 * x ∨ 4 * x + 4 ≤ j → S j = a12 j)) 4 0 a12 (by omega) ⟨fun s h => absurd h (by omega), fun _ _ => rfl⟩ ?_ ?_
  · intro n S h
    exact br_t (by decide) (nm_r hy (hJ S h.1 h.2))
  · intro n i S hi h hw
    refine br_f (nI_ge (b := 4) hi (by decide)) (br_f hn ⟨hin, zt_sumOver (G := G) hc hi (by rw [nI_clamp (by omega)]; exact h2) (fun t ht => by rw [h.2 _ (by omega)]; exact hG t ht) ?_⟩)
    refine br_f hn ⟨hin, zt_sumOver (G := H) hd hi (by rw [nI_clamp (by omega)]; exact h3) (fun t ht => by rw [h.2 _ (by omega)]; exact hH t ht) ?_⟩
    refine zt_mayBeI hn (br_f (by decide) ⟨zt_in (by omega) (by decide), nm_r (zt_uL (zt_cl hx' hi) rfl) (nm_r (nI_1 i) (hw _ (zt_fillL h hi ?_ (fun j hj => pk_uLn hj))))⟩)
    rw [pk_uLs]
    rfl
theorem zt_w138 {post : Int64 → St2 → Prop} {G : Nat → Int64} {x : Nat} (hx : x < 14) (hG : ∀ t, t < 4 → a12 (4 * x + t) = G t) (hp : post (zt_sm G 4) (lc, ic, nI x, ls, a1, a2, a3, a4, a5, a6, a7, a8, a9, a10, a11, a12, a13)) :
    ∃ n, wX_weight_138 post lc ic (nI x) ls a1 a2 a3 a4 a5 a6 a7 a8 a9 a10 a11 a12 a13 n 0 0 :=
  pk_loop (fun n i v => wX_weight_138 post lc ic (nI x) ls a1 a2 a3 a4 a5 a6 a7 a8 a9 a10 a11 a12 a13 n v (nI i)) (fun i v => v = zt_sm G i) 4 0 0 (by omega) rfl
    (fun n v h => br_t (by decide) (by rw [h]; exact hp))
    (fun n i v hi h hw => br_f (nI_ge (b := 4) hi (by decide)) ⟨zt_in (by omega) (by decide),
      nm_r (e' := zt_sm G (i + 1)) (by rw [zt_cl hx hi, hG i hi, h]; rfl) (nm_r (nI_1 i) (hw _ rfl))⟩)
/-- the sum of a site's weights, over the leaves' states p (leaf 0), q (leaf 1), z (leaf 2) -/
def zt_weight (R : Nat → Int32) (p q z : Nat) : Int64 := zt_sm (zt_rowL R (zt_one p) (zt_rowL R (zt_one q) (zt_one z))) 4
theorem zt_w22 {post : Int64 → St2 → Prop} {V0 V1 V2 : Nat} (hV0 : V0 < 256) (hV1 : V1 < 256) (hV2 : V2 < 256) (h40 : a4 0 = nI V0) (h41 : a4 1 = nI V1) (h42 : a4 2 = nI V2)
    (h28 : a2 8 = 0) (h38 : a3 8 = 9) (h29 : a2 9 = 1) (h39 : a3 9 = 2) (h70 : a7 0 = 8) (h71 : a7 1 = 0) (h72 : a7 2 = 9) (h73 : a7 3 = 1) (h74 : a7 4 = 2)
    (hp : ∀ b12, post (zt_weight a6 (V0 / 16 % 4) (V1 / 16 % 4) (V2 / 16 % 4)) (lc, ic, 8, ls, a1, a2, a3, a4, a5, a6, a7, a8, a9, a10, a11, b12, a13)) :
    ∃ n, wX_weight_22 post 1 lc ic 8 ls n 4 a1 a2 a3 a4 a5 a6 a7 a8 a9 a10 a11 a12 a13 := by
  refine ⟨6, br_f (by decide) ⟨vp_in_iff.mpr (by decide), nm_r (e' := nI 2) h74 (zt_w36L (x := 2) (y2 := 3) (by omega) hV2 h42 (by decide) (fun f2 r2 o2 => ?_))⟩⟩
  refine br_f (by decide) ⟨vp_in_iff.mpr (by decide), nm_r (e' := nI 1) h73 (zt_w36L (x := 1) (y2 := 2) (by omega) hV1 h41 (by decide) (fun f1 r1 o1 => ?_))⟩
  refine br_f (by decide) ⟨vp_in_iff.mpr (by decide), nm_r (e' := nI 9) h72 (zt_w36I (x := 9) (c := 1) (d := 2) (y2 := 1) (G := zt_one (V1 / 16 % 4)) (H := zt_one (V2 / 16 % 4)) (by omega) (by omega) (by omega) (by omega) (by omega) (by omega) h29 h39
    r1 (fun t ht => by rw [o1 _ (by omega)]; exact r2 t ht) (by decide) (fun f9 r9 o9 => ?_))⟩
  refine br_f (by decide) ⟨vp_in_iff.mpr (by decide), nm_r (e' := nI 0) h71 (zt_w36L (x := 0) (y2 := 0) (by omega) hV0 h40 (by decide) (fun f0 r0 o0 => ?_))⟩
  refine br_f (by decide) ⟨vp_in_iff.mpr (by decide), nm_r (e' := nI 8) h70 (zt_w36I (x := 8) (c := 0) (d := 9) (y2 := -1) (G := zt_one (V0 / 16 % 4)) (H := zt_rowL a6 (zt_one (V1 / 16 % 4)) (zt_one (V2 / 16 % 4))) (by omega) (by omega) (by omega) (by omega) (by omega) (by omega) h28 h38
    r0 (fun t ht => by rw [o0 _ (by omega)]; exact r9 t ht) (by decide) (fun f8 r8 o8 => ?_))⟩
  exact br_t (by decide) (zt_w138 (x := 8) (by omega) r8 (hp f8))
theorem zt_weightW {post : Int64 → St2 → Prop} {V0 V1 V2 : Nat} (hV0 : V0 < 256) (hV1 : V1 < 256) (hV2 : V2 < 256) (h40 : a4 0 = nI V0) (h41 : a4 1 = nI V1) (h42 : a4 2 = nI V2)
    (h28 : a2 8 = 0) (h38 : a3 8 = 9) (h29 : a2 9 = 1) (h39 : a3 9 = 2)
    (hp : ∀ b7 b12, post (zt_weight a6 (V0 / 16 % 4) (V1 / 16 % 4) (V2 / 16 % 4)) (lc, ic, 8, 5, a1, a2, a3, a4, a5, a6, b7, a8, a9, a10, a11, b12, a13)) :
    wpX_weight post (lc, ic, 8, ls, a1, a2, a3, a4, a5, a6, a7, a8, a9, a10, a11, a12, a13) 1 := by
  unfold wpX_weight
  refine zt_isState (by decide) (by decide) (br_f (by decide) ?_)
  refine zt_listNodes h28 h38 h29 h39 (fun b7 e0 e1 e2 e3 e4 => nm_r (e' := 4) (by decide) ?_)
  exact zt_w22 hV0 hV1 hV2 h40 h41 h42 h28 h38 h29 h39 e0 e1 e2 e3 e4 (fun b12 => hp b7 b12)
end
end
section
/-! part 4: the constructor, attach, parent, leavesBelow, rate, swap, move -/
section
variable {lc ic tp ls : Int32} {a1 a2 a3 a4 a5 a6 a7 a8 a9 a10 a11 : Nat → Int32} {a12 : Nat → Int64} {a13 : Nat → Int32}
theorem zt_init110 {post : St2 → Prop} {mc ms kc ks : Nat} {x : Int32} (h0 : ¬ x < 0) (h255 : ¬ 255 < x)
    (hp : ∀ b5 b6, (∀ j, j < 16 → b5 j = zt_C j) → (∀ j, j < 16 → b6 j = 1) → post (1, ic, tp, ls, upd a1 0 (-1), a2, a3, upd a4 0 x, b5, b6, a7, a8, a9, a10, a11, a12, a13)) :
    ∃ n, wX_init_110 post mc ms x kc ks lc ic tp ls n 0 a1 a2 a3 a4 a5 a6 a7 a8 a9 a10 a11 a12 a13 := by
  refine pk_loop (fun n i (S : (Nat → Int32) × (Nat → Int32)) => wX_init_110 post mc ms x kc ks lc ic tp ls n (nI i) a1 a2 a3 a4 S.1 S.2 a7 a8 a9 a10 a11 a12 a13)
    (fun i S => (∀ j, j < i → S.1 j = zt_C j) ∧ (∀ j, j < i → S.2 j = 1)) 16 0 (a5, a6) (by omega) ⟨fun s h => absurd h (by omega), fun s h => absurd h (by omega)⟩ ?_ ?_
  · intro n S h
    exact br_t (by decide) (zt_isStates h0 h255 (br_f (by decide) ⟨vp_in_iff.mpr (by decide), nm_e (nm_e (hp S.1 S.2 h.1 h.2))⟩))
  · intro n i S hi h hw
    have step : ∀ z0 : Int32, z0 = zt_C i → wX_init_135 post mc ms (wX_init_110 post mc ms x kc ks lc ic tp ls n) x (nI i) z0 (nI i) kc ks lc ic tp ls a1 a2 a3 a4 S.1 S.2 a7 a8 a9 a10 a11 a12 a13 := by
      intro z0 hz
      refine ⟨vp_in_nI hi (by decide), nm_r (zt_u (nI_clamp (by omega)) rfl) ⟨vp_in_nI hi (by decide), nm_r (zt_u (nI_clamp (by omega)) rfl) (nm_r (nI_1 i) (hw (upd S.1 i z0, upd S.2 i 1) ⟨lt_s (fun j hj => ?_) ?_, lt_s (fun j hj => ?_) ?_⟩))⟩⟩
      · show upd S.1 i z0 j = _
        rw [pk_un (by omega)]
        exact h.1 j hj
      · show upd S.1 i z0 i = _
        rw [pk_us, hz]
      · show upd S.2 i 1 j = _
        rw [pk_un (by omega)]
        exact h.2 j hj
      · exact pk_us
    refine br_f (nI_ge (b := 16) hi (by decide)) ⟨by decide, by decide, ?_⟩
    exact pk_eq (i / 4) (i % 4) (fun e => step 0 (by unfold zt_C; rw [if_pos e])) (fun e => step 1 (by unfold zt_C; rw [if_neg e])) (pk_div (a := i) (d := 4) (by omega) (by omega) (by omega)) (pk_rem (a := i) (d := 4) (by omega) (by omega) (by omega)) (by omega) (by omega)
theorem zt_init {post : St2 → Prop} {x : Int32} (h0 : ¬ x < 0) (h255 : ¬ 255 < x)
    (hp : ∀ b5 b6, (∀ j, j < 16 → b5 j = zt_C j) → (∀ j, j < 16 → b6 j = 1) → post (1, 0, 0, 0, upd (fun _ => 0) 0 (-1), fun _ => 0, fun _ => 0, upd (fun _ => 0) 0 x, b5, b6, fun _ => 0, fun _ => 0, fun _ => 0, fun _ => 0, fun _ => 0, fun _ => 0, fun _ => 0)) :
    wpX_init post 13 347 (0, 0, 0, 0) x := by
  refine ⟨by decide, by decide, by decide, by decide, by decide, by decide, by decide, by decide, by decide, by decide, by decide, by decide, by decide, by decide, by decide, by decide, by decide, by decide, by decide, by decide, by decide, by decide, by decide, by decide, by decide, by decide, ?_⟩
  exact zt_init110 h0 h255 hp
/-- the first leaf is hung beside leaf 0 -/
theorem zt_attach1 {post : Int32 → St2 → Prop} {y : Int32} (h0 : ¬ y < 0) (h255 : ¬ 255 < y) (h10 : a1 0 = -1)
    (hp : post 1 (2, 1, 8, ls, upd (upd (upd a1 8 (-1)) 0 8) 1 8, upd a2 8 0, upd a3 8 1, upd a4 1 y, a5, a6, a7, a8, a9, a10, a11, a12, a13)) :
    wpX_attach post (1, 0, tp, ls, a1, a2, a3, a4, a5, a6, a7, a8, a9, a10, a11, a12, a13) 0 y := by
  unfold wpX_attach
  refine zt_isNodeL (by decide) (by decide) (br_f (by decide) (zt_isStates h0 h255 (br_f (by decide) (br_f (by decide) ?_))))
  refine nm_r (e' := 8) rfl (nm_r (e' := 2) rfl (nm_r (e' := 1) rfl ⟨vp_in_iff.mpr (by decide), nm_r (zt_u (k' := 1) rfl rfl) ?_⟩))
  refine ⟨vp_in_iff.mpr (by decide), nm_r (e' := -1) h10 ⟨vp_in_iff.mpr (by decide), nm_r (zt_u (k' := 8) rfl rfl) (br_t rfl ?_)⟩⟩
  exact ⟨vp_in_iff.mpr (by decide), nm_r (zt_u (k' := 8) rfl rfl) ⟨vp_in_iff.mpr (by decide), nm_r (zt_u (k' := 8) rfl rfl) ⟨vp_in_iff.mpr (by decide), nm_r (zt_u (k' := 0) rfl rfl) ⟨vp_in_iff.mpr (by decide), nm_r (zt_u (k' := 1) rfl rfl) hp⟩⟩⟩⟩
/-- the second one is hung beside leaf 1 -/
theorem zt_attach2 {post : Int32 → St2 → Prop} {y : Int32} (h0 : ¬ y < 0) (h255 : ¬ 255 < y) (h11 : a1 1 = 8) (h28 : a2 8 = 0)
    (hp : post 2 (3, 2, tp, ls, upd (upd (upd a1 9 8) 1 9) 2 9, upd a2 9 1, upd (upd a3 8 9) 9 2, upd a4 2 y, a5, a6, a7, a8, a9, a10, a11, a12, a13)) :
    wpX_attach post (2, 1, tp, ls, a1, a2, a3, a4, a5, a6, a7, a8, a9, a10, a11, a12, a13) 1 y := by
  unfold wpX_attach
  refine zt_isNodeL (by decide) (by decide) (br_f (by decide) (zt_isStates h0 h255 (br_f (by decide) (br_f (by decide) ?_))))
  refine nm_r (e' := 9) rfl (nm_r (e' := 3) rfl (nm_r (e' := 2) rfl ⟨vp_in_iff.mpr (by decide), nm_r (zt_u (k' := 2) rfl rfl) ?_⟩))
  refine ⟨vp_in_iff.mpr (by decide), nm_r (e' := 8) h11 ⟨vp_in_iff.mpr (by decide), nm_r (zt_u (k' := 9) rfl rfl) (br_f (by decide) ⟨vp_in_iff.mpr (by decide), br_f (fun e => absurd (h28.symm.trans e) (by decide)) ⟨vp_in_iff.mpr (by decide), nm_r (zt_u (k' := 8) rfl rfl) ?_⟩⟩)⟩⟩
  exact ⟨vp_in_iff.mpr (by decide), nm_r (zt_u (k' := 9) rfl rfl) ⟨vp_in_iff.mpr (by decide), nm_r (zt_u (k' := 9) rfl rfl) ⟨vp_in_iff.mpr (by decide), nm_r (zt_u (k' := 1) rfl rfl) ⟨vp_in_iff.mpr (by decide), nm_r (zt_u (k' := 2) rfl rfl) hp⟩⟩⟩⟩
theorem zt_parent {post : Int32 → Prop} (h19 : a1 9 = 8) (hp : post 8) : wpX_parent post (3, 2, 8, ls, a1, a2, a3, a4, a5, a6, a7, a8, a9, a10, a11, a12, a13) 9 := by
  unfold wpX_parent
  refine zt_isNodeI (by decide) (by decide) (by decide) (by decide) (br_f (by decide) (br_f (by decide) ⟨vp_in_iff.mpr (by decide), ?_⟩))
  exact ek_v (P := post) h19 hp
theorem zt_findSets {post : St2 → Prop} (h28 : a2 8 = 0) (h38 : a3 8 = 9) (h29 : a2 9 = 1) (h39 : a3 9 = 2)
    (hp : ∀ b7 b8 : Nat → Int32, b8 9 = 6 → post (lc, ic, 8, 5, a1, a2, a3, a4, a5, a6, b7, b8, a9, a10, a11, a12, a13)) : wpX_findSets post (lc, ic, 8, ls, a1, a2, a3, a4, a5, a6, a7, a8, a9, a10, a11, a12, a13) := by
  unfold wpX_findSets
  refine zt_listNodes h28 h38 h29 h39 (fun b7 e0 e1 e2 e3 e4 => nm_r (e' := 4) (by decide) ⟨6, ?_⟩)
  refine br_f (by decide) ⟨vp_in_iff.mpr (by decide), nm_r (e' := 2) e4 (br_f (by decide) ⟨vp_in_iff.mpr (by decide), nm_r (zt_u (k' := 2) (x' := 4) rfl (by decide)) (nm_r (e' := 3) (by decide) ?_)⟩)⟩
  refine br_f (by decide) ⟨vp_in_iff.mpr (by decide), nm_r (e' := 1) e3 (br_f (by decide) ⟨vp_in_iff.mpr (by decide), nm_r (zt_u (k' := 1) (x' := 2) rfl (by decide)) (nm_r (e' := 2) (by decide) ?_)⟩)⟩
  have hb1 : upd (upd a8 2 4) 1 2 (a2 9).toNatClampNeg = 2 := by rw [h29]; rfl
  have hb2 : upd (upd a8 2 4) 1 2 (a3 9).toNatClampNeg = 4 := by rw [h39]; rfl
  have hi1 : vp_in (a2 9) 14 := by rw [h29]; exact vp_in_iff.mpr (by decide)
  have hi2 : vp_in (a3 9) 14 := by rw [h39]; exact vp_in_iff.mpr (by decide)
  refine br_f (by decide) ⟨vp_in_iff.mpr (by decide), nm_r (e' := 9) e2 (br_t (by decide) ⟨vp_in_iff.mpr (by decide), hi1, vp_in_iff.mpr (by decide), hi2, vp_in_iff.mpr (by decide), nm_r (zt_u (k' := 9) (x' := 2 ||| 4) rfl (congr (congrArg HOr.hOr hb1) hb2)) (nm_r (e' := 1) (by decide) ?_)⟩)⟩
  refine br_f (by decide) ⟨vp_in_iff.mpr (by decide), nm_r (e' := 0) e1 (br_f (by decide) ⟨vp_in_iff.mpr (by decide), nm_r (zt_u (k' := 0) rfl rfl) (nm_r (e' := 0) (by decide) ?_)⟩)⟩
  have hi3 : vp_in (a2 8) 14 := by rw [h28]; exact vp_in_iff.mpr (by decide)
  have hi4 : vp_in (a3 8) 14 := by rw [h38]; exact vp_in_iff.mpr (by decide)
  refine br_f (by decide) ⟨vp_in_iff.mpr (by decide), nm_r (e' := 8) e0 (br_t (by decide) ⟨vp_in_iff.mpr (by decide), hi3, vp_in_iff.mpr (by decide), hi4, vp_in_iff.mpr (by decide), nm_r (zt_u (k' := 8) rfl rfl) (nm_r (e' := -1) (by decide) ?_)⟩)⟩
  exact br_t (by decide) (hp _ _ (by rw [pk_un (by decide), pk_un (by decide), pk_us]; decide))
theorem zt_leavesBelow {post : Int32 → St2 → Prop} (h28 : a2 8 = 0) (h38 : a3 8 = 9) (h29 : a2 9 = 1) (h39 : a3 9 = 2)
    (hp : ∀ b7 b8 : Nat → Int32, post 6 (3, 2, 8, 5, a1, a2, a3, a4, a5, a6, b7, b8, a9, a10, a11, a12, a13)) : wpX_leavesBelow post (3, 2, 8, ls, a1, a2, a3, a4, a5, a6, a7, a8, a9, a10, a11, a12, a13) 9 := by
  unfold wpX_leavesBelow
  refine zt_isNodeI (by decide) (by decide) (by decide) (by decide) (br_f (by decide) (zt_findSets h28 h38 h29 h39 (fun b7 b8 e => ⟨vp_in_iff.mpr (by decide), ?_⟩)))
  exact ek_v (P := fun r => post r (3, 2, 8, 5, a1, a2, a3, a4, a5, a6, b7, b8, a9, a10, a11, a12, a13)) e (hp b7 b8)
theorem zt_rate {post : Int32 → St2 → Prop} {t u k : Nat} (ht : t < 4) (hu : u < 4) (hk : k < 10) (h6 : ∀ j, j < 16 → a6 j = 1)
    (hp : post 1 (lc, ic, tp, ls, a1, a2, a3, a4, a5, upd a6 (4 * t + u) (nI k), a7, a8, a9, a10, a11, a12, a13)) : wpX_rate post (lc, ic, tp, ls, a1, a2, a3, a4, a5, a6, a7, a8, a9, a10, a11, a12, a13) (nI t) (nI u) (nI k) := by
  unfold wpX_rate
  refine zt_isState (nI_pos (by omega)) (nI_nlt (b := t) (a := 3) (by omega) (by omega)) (br_f (by decide) (zt_isState (nI_pos (by omega)) (nI_nlt (b := u) (a := 3) (by omega) (by omega)) (br_f (by decide) (br_f (nI_pos (by omega)) (br_t (nI_le (b := 9) (by omega) (by decide)) ?_)))))
  exact ⟨zt_in (by omega) (by decide), nm_r (e' := 1) (by rw [zt_cl (by omega) hu]; exact h6 _ (by omega)) ⟨zt_in (by omega) (by decide), nm_r (zt_u (zt_cl (by omega) hu) rfl) hp⟩⟩
theorem zt_ne {f : Nat → Int32} {j : Nat} {x y : Int32} (h : f j = x) (hn : ¬ x = y) : ¬ f j = y := fun e => hn (h.symm.trans e)
/-- swap(0, 9): both hang under 8 -/
theorem zt_swap {post : Int32 → St2 → Prop} (h10 : a1 0 = 8) (h18 : a1 8 = -1) (h19 : a1 9 = 8) (h28 : a2 8 = 0)
    (hp : post 0 (3, 2, 8, ls, upd (upd a1 0 8) 9 8, upd a2 8 9, upd a3 8 0, a4, a5, a6, a7, a8, a9, a10, a11, a12, a13)) : wpX_swap post (3, 2, 8, ls, a1, a2, a3, a4, a5, a6, a7, a8, a9, a10, a11, a12, a13) 0 9 := by
  unfold wpX_swap wpX_swapRefusal
  refine zt_isNodeL (by decide) (by decide) (br_f (by decide) (zt_isNodeI (by decide) (by decide) (by decide) (by decide) (br_f (by decide) ⟨2, ?_⟩)))
  refine br_f (by decide) ⟨vp_in_iff.mpr (by decide), br_f (zt_ne h10 (by decide)) ⟨vp_in_iff.mpr (by decide), nm_r (e' := 8) h10 ?_⟩⟩
  refine br_f (by decide) ⟨vp_in_iff.mpr (by decide), br_t h18 (br_f (by decide) (br_t rfl ⟨2, ?_⟩))⟩
  refine br_f (by decide) ⟨vp_in_iff.mpr (by decide), br_f (zt_ne h19 (by decide)) ⟨vp_in_iff.mpr (by decide), nm_r (e' := 8) h19 ?_⟩⟩
  refine br_f (by decide) ⟨vp_in_iff.mpr (by decide), br_t h18 (br_f (by decide) (br_t rfl (br_t (by decide) ?_)))⟩
  refine ⟨vp_in_iff.mpr (by decide), nm_r (e' := 8) h10 ⟨vp_in_iff.mpr (by decide), nm_r (e' := 8) h19 ⟨vp_in_iff.mpr (by decide), br_t h28 ⟨vp_in_iff.mpr (by decide), br_f (zt_ne h28 (by decide)) ?_⟩⟩⟩⟩
  refine br_f (by decide) ⟨vp_in_iff.mpr (by decide), nm_r (zt_u (k' := 8) rfl rfl) (br_t rfl ⟨vp_in_iff.mpr (by decide), nm_r (zt_u (k' := 8) rfl rfl) ?_⟩)⟩
  exact ⟨vp_in_iff.mpr (by decide), nm_r (zt_u (k' := 0) rfl rfl) ⟨vp_in_iff.mpr (by decide), nm_r (zt_u (k' := 9) rfl rfl) hp⟩⟩
/-- move(0, 2) behind it: 8 (9 (1, 2), 0) becomes 9 (1, 8 (2, 0)) -/
theorem zt_move {post : Int32 → St2 → Prop} (h10 : a1 0 = 8) (h12 : a1 2 = 9) (h18 : a1 8 = -1) (h19 : a1 9 = 8) (h28 : a2 8 = 9) (h29 : a2 9 = 1)
    (hp : ∀ b1 b2 b3, post 0 (3, 2, 9, ls, b1, b2, b3, a4, a5, a6, a7, a8, a9, a10, a11, a12, a13)) : wpX_move post (3, 2, 8, ls, a1, a2, a3, a4, a5, a6, a7, a8, a9, a10, a11, a12, a13) 0 2 := by
  unfold wpX_move
  refine zt_isNodeL (by decide) (by decide) (br_f (by decide) (zt_isNodeL (by decide) (by decide) (br_f (by decide) (br_f (by decide) ⟨vp_in_iff.mpr (by decide), nm_r (e' := 8) h10 ⟨3, ?_⟩⟩))))
  refine br_f (by decide) ⟨vp_in_iff.mpr (by decide), br_f (zt_ne h12 (by decide)) ⟨vp_in_iff.mpr (by decide), nm_r (e' := 9) h12 ?_⟩⟩
  refine br_f (by decide) ⟨vp_in_iff.mpr (by decide), br_f (zt_ne h19 (by decide)) ⟨vp_in_iff.mpr (by decide), nm_r (e' := 8) h19 ?_⟩⟩
  refine br_f (by decide) ⟨vp_in_iff.mpr (by decide), br_t h18 (br_f (by decide) (br_t rfl (br_f (by decide) ⟨vp_in_iff.mpr (by decide), br_f (zt_ne h28 (by decide)) ⟨vp_in_iff.mpr (by decide), ?_⟩⟩)))⟩
  refine ek_v (P := fun z => wX_move_78 post 0 2 8 z 3 2 8 ls a1 a2 a3 a4 a5 a6 a7 a8 a9 a10 a11 a12 a13) h28 ?_
  refine ⟨vp_in_iff.mpr (by decide), nm_r (e' := -1) h18 ⟨vp_in_iff.mpr (by decide), nm_r (zt_u (k' := 9) rfl rfl) (br_t rfl ?_)⟩⟩
  refine ⟨vp_in_iff.mpr (by decide), nm_r (e' := 9) (show upd a1 9 (-1) 2 = 9 from by rw [pk_un (by decide)]; exact h12) ⟨vp_in_iff.mpr (by decide), nm_r (zt_u (k' := 8) rfl rfl) (br_f (by decide) ⟨vp_in_iff.mpr (by decide), br_f (zt_ne h29 (by decide)) ⟨vp_in_iff.mpr (by decide), nm_e ?_⟩⟩)⟩⟩
  exact ⟨vp_in_iff.mpr (by decide), nm_e ⟨vp_in_iff.mpr (by decide), nm_e ⟨vp_in_iff.mpr (by decide), nm_e ⟨vp_in_iff.mpr (by decide), nm_e (hp _ _ _)⟩⟩⟩⟩
end
end
section
/-! part 5: the plain laws: the least cost, the sum of weights; the script's bits -/
theorem zt_lu_congr {C D G H : Nat → Int32} {s : Nat} (hs : s < 4) (hC : ∀ j, j < 16 → C j = D j) (hG : ∀ t, t < 4 → G t = H t) : ∀ i, i ≤ 4 → zt_lu C G s i = zt_lu D H s i := by
  intro i
  induction i with
  | zero => intro _; rfl
  | succ i ih =>
    intro hi
    show zt_mn _ _ = zt_mn _ _
    rw [ih (by omega), hC _ (by omega), hG i (by omega)]
theorem zt_bs_congr {G H : Nat → Int32} (hG : ∀ t, t < 4 → G t = H t) : ∀ i, i ≤ 4 → zt_bs G i = zt_bs H i := by
  intro i
  induction i with
  | zero => intro _; rfl
  | succ i ih =>
    intro hi
    show zt_mn _ _ = zt_mn _ _
    rw [ih (by omega), hG i (by omega)]
def zt_l0 (p s : Nat) : Int32 := if p = s then 0 else 1
def zt_r9 (q z s : Nat) : Int32 := zt_l0 q s + zt_l0 z s
def zt_l9 (q z s : Nat) : Int32 := if q = z then zt_l0 q s else if q = s ∨ z = s then 1 else 2
theorem zt_tab0 : ∀ p, p < 4 → ∀ s, s < 4 → zt_lu zt_C (zt_leaf p) s 4 = zt_l0 p s := by decide +kernel
theorem zt_tab9 : ∀ q, q < 4 → ∀ z, z < 4 → ∀ s, s < 4 → zt_lu zt_C (zt_r9 q z) s 4 = zt_l9 q z s := by decide +kernel
theorem zt_tab8 : ∀ p, p < 4 → ∀ q, q < 4 → ∀ z, z < 4 → zt_bs (fun s => 0 + zt_l0 p s + zt_l9 q z s) 4 = if p = q ∧ q = z then 0 else if p = q ∨ q = z ∨ p = z then 1 else 2 := by decide +kernel
theorem zt_z2 : ∀ a b : Nat, a < 4 → b < 4 → ∀ s, s < 4 → (0 : Int32) + zt_l0 a s + zt_l0 b s = zt_r9 a b s := by
  intro a b _ _ s _
  unfold zt_r9
  rw [Int32.zero_add]
theorem zt_leastEq {C : Nat → Int32} {p q z : Nat} (hC : ∀ j, j < 16 → C j = zt_C j) (hp : p < 4) (hq : q < 4) (hz : z < 4) :
    zt_least C p q z = if p = q ∧ q = z then 0 else if p = q ∨ q = z ∨ p = z then 1 else 2 := by
  rw [← zt_tab8 p hp q hq z hz]
  have l0 : ∀ a, a < 4 → ∀ s, s < 4 → zt_lu C (zt_leaf a) s 4 = zt_l0 a s := fun a ha s hs => by
    rw [zt_lu_congr hs hC (fun t _ => rfl) 4 (Nat.le_refl 4)]
    exact zt_tab0 a ha s hs
  have r9 : ∀ s, s < 4 → zt_row C (zt_leaf q) (zt_leaf z) s = zt_r9 q z s := fun s hs => by
    unfold zt_row
    rw [l0 q hq s hs, l0 z hz s hs]
    exact zt_z2 q z hq hz s hs
  refine zt_bs_congr (fun s hs => ?_) 4 (Nat.le_refl 4)
  show 0 + zt_lu C (zt_leaf p) s 4 + zt_lu C (zt_row C (zt_leaf q) (zt_leaf z)) s 4 = _
  rw [l0 p hp s hs, zt_lu_congr hs hC r9 4 (Nat.le_refl 4), zt_tab9 q hq z hz s hs]
theorem zt_soEq {R : Nat → Int32} {G : Nat → Int64} {r : Nat → Int64} {s : Nat} (h : ∀ v, v < 4 → (R (4 * s + v)).toInt64 = r v) : zt_so R G s 4 = zt_sm (fun v => r v * G v) 4 := by
  show 0 + (R (4 * s + 0)).toInt64 * G 0 + (R (4 * s + 1)).toInt64 * G 1 + (R (4 * s + 2)).toInt64 * G 2 + (R (4 * s + 3)).toInt64 * G 3 = 0 + r 0 * G 0 + r 1 * G 1 + r 2 * G 2 + r 3 * G 3
  rw [h 0 (by omega), h 1 (by omega), h 2 (by omega), h 3 (by omega)]
theorem zt_pick {r : Nat → Int64} {p : Nat} (hp : p < 4) : zt_sm (fun v => r v * zt_one p v) 4 = r p := by
  show 0 + r 0 * zt_one p 0 + r 1 * zt_one p 1 + r 2 * zt_one p 2 + r 3 * zt_one p 3 = r p
  have h : p = 0 ∨ p = 1 ∨ p = 2 ∨ p = 3 := by omega
  rcases h with h | h | h | h <;> subst h <;> simp [zt_one]
theorem zt_sm_congr {G H : Nat → Int64} (h : ∀ s, s < 4 → G s = H s) : zt_sm G 4 = zt_sm H 4 := by
  show 0 + G 0 + G 1 + G 2 + G 3 = 0 + H 0 + H 1 + H 2 + H 3
  rw [h 0 (by omega), h 1 (by omega), h 2 (by omega), h 3 (by omega)]
/-- the identity itself, over plain functions: A, B, D are 1 but at t; r is 1 but at (t, u), where it is k -/
theorem zt_alg {t u : Nat} (ht : t < 4) (hu : u < 4) {A B D : Nat → Int64} {r : Nat → Nat → Int64} {k : Int64} (hA : ∀ s, s < 4 → s ≠ t → A s = 1) (hB : ∀ s, s < 4 → s ≠ t → B s = 1) (hD : ∀ s, s < 4 → s ≠ t → D s = 1)
    (hr : ∀ s v, s < 4 → v < 4 → ¬ (s = t ∧ v = u) → r s v = 1) (hk : r t u = k) :
    zt_sm (fun s => A s * zt_sm (fun v => r s v * (B v * D v)) 4) 4 =
      A 0 * (3 + B t * D t + (if t = 0 then (k - 1) * (if t = u then B t * D t else 1) else 0)) + A 1 * (3 + B t * D t + (if t = 1 then (k - 1) * (if t = u then B t * D t else 1) else 0)) +
      (A 2 * (3 + B t * D t + (if t = 2 then (k - 1) * (if t = u then B t * D t else 1) else 0)) + A 3 * (3 + B t * D t + (if t = 3 then (k - 1) * (if t = u then B t * D t else 1) else 0))) := by
  have e1 : t = 0 ∨ t = 1 ∨ t = 2 ∨ t = 3 := by omega
  have e2 : u = 0 ∨ u = 1 ∨ u = 2 ∨ u = 3 := by omega
  rcases e1 with e | e | e | e <;> subst e <;> rcases e2 with e | e | e | e <;> subst e <;> simp [zt_sm, hA, hB, hD, hr, hk] <;> grind
theorem zt_k1 : ∀ k, k < 10 → (1 : Int32) + (nI k - 1) = nI k ∧ (nI k - 1).toInt64 = lN k - 1 := by decide +kernel
theorem zt_mulL {a b : Nat} (ha : a < 10) (hb : b < 10) : (nI a * nI b).toInt64 = lN a * lN b := by
  have h : a * b ≤ 9 * 9 := Nat.mul_le_mul (by omega) (by omega)
  rw [pk_mul, nI_l (by omega), lN_mul]
theorem zt_ifN {c : Prop} {k : Nat} (d : Decidable c) : ((if c then nI k else 1) : Int32) = nI (if c then k else 1) := by
  split <;> rfl
theorem zt_ifL {c : Prop} {k : Nat} (d : Decidable c) : lN (if c then k else 1) = if c then lN k else 1 := by
  split <;> rfl
theorem zt_ifB {c : Prop} {k : Nat} (d : Decidable c) (hk : k < 10) : (if c then k else 1) < 10 := by
  split <;> omega
/-- what the law reckons -/
theorem zt_due {R : Nat → Int32} {p q z t u k : Nat} (hp : p < 4) (hq : q < 4) (hz : z < 4) (ht : t < 4) (hu : u < 4) (hk : k < 10) (h6 : ∀ j, j < 16 → R j = 1) {B : Int32} {W X : Int64}
    (hB : B = (if u = q then nI k else 1) * (if u = z then nI k else 1)) (hW : W = 3 + B.toInt64) (hX : X = (nI k - 1).toInt64 * (if t = u then B else 1).toInt64) :
    zt_weight (upd R (4 * t + u) (nI k)) p q z =
      (1 + (if t = 0 ∧ u = p then nI k - 1 else 0) : Int32).toInt64 * (W + (if t = 0 then X else 0)) + (1 + (if t = 1 ∧ u = p then nI k - 1 else 0) : Int32).toInt64 * (W + (if t = 1 then X else 0)) +
      ((1 + (if t = 2 ∧ u = p then nI k - 1 else 0) : Int32).toInt64 * (W + (if t = 2 then X else 0)) + (1 + (if t = 3 ∧ u = p then nI k - 1 else 0) : Int32).toInt64 * (W + (if t = 3 then X else 0))) := by
  have hr : ∀ s v, s < 4 → v < 4 → (upd R (4 * t + u) (nI k) (4 * s + v)).toInt64 = if t = s ∧ u = v then lN k else 1 := by
    intro s v hs hv
    by_cases e : t = s ∧ u = v
    · rw [if_pos e, ← e.1, ← e.2, pk_us]
      exact nI_l (by omega)
    · rw [if_neg e, pk_un (by omega), h6 _ (by omega)]
      rfl
  have hF : ∀ j, (1 + (if t = j ∧ u = p then nI k - 1 else 0) : Int32).toInt64 = if t = j ∧ u = p then lN k else 1 := by
    intro j
    by_cases e : t = j ∧ u = p
    · rw [if_pos e, if_pos e, (zt_k1 k hk).1]
      exact nI_l (by omega)
    · rw [if_neg e, if_neg e]
      rfl
  have hBL : B.toInt64 = (if t = t ∧ u = q then lN k else 1) * (if t = t ∧ u = z then lN k else 1) := by
    rw [hB, zt_ifN, zt_ifN, zt_mulL (zt_ifB _ hk) (zt_ifB _ hk), zt_ifL, zt_ifL]
    simp
  have hXL : X = (lN k - 1) * (if t = u then (if t = t ∧ u = q then lN k else 1) * (if t = t ∧ u = z then lN k else 1) else 1) := by
    rw [hX, (zt_k1 k hk).2, ← hBL]
    congr 1
    split <;> rfl
  rw [hF 0, hF 1, hF 2, hF 3, hXL, hW, hBL]
  have key := zt_alg ht hu (A := fun s => if t = s ∧ u = p then lN k else 1) (B := fun s => if t = s ∧ u = q then lN k else 1) (D := fun s => if t = s ∧ u = z then lN k else 1) (r := fun s v => if t = s ∧ u = v then lN k else 1) (k := lN k)
    (fun s _ e => if_neg (fun g => e g.1.symm)) (fun s _ e => if_neg (fun g => e g.1.symm)) (fun s _ e => if_neg (fun g => e g.1.symm)) (fun s v _ _ e => if_neg (fun g => e ⟨g.1.symm, g.2.symm⟩)) (if_pos ⟨rfl, rfl⟩)
  refine Eq.trans ?_ key
  unfold zt_weight
  refine zt_sm_congr (fun s hs => ?_)
  unfold zt_rowL
  rw [zt_soEq (r := fun v => if t = s ∧ u = v then lN k else 1) (fun v hv => hr s v hs hv), zt_pick hp]
  congr 1
  rw [zt_soEq (r := fun v => if t = s ∧ u = v then lN k else 1) (fun v hv => hr s v hs hv)]
  refine zt_sm_congr (fun v hv => ?_)
  show _ * (zt_so _ _ v 4 * zt_so _ _ v 4) = _
  rw [zt_soEq (r := fun w => if t = v ∧ u = w then lN k else 1) (fun w hw => hr v w hv hw), zt_soEq (r := fun w => if t = v ∧ u = w then lN k else 1) (fun w hw => hr v w hv hw), zt_pick hq, zt_pick hz]
theorem zt_sh (x : Int32) : (x >>> ((4 : Int32) &&& 31)) &&& 3 = nI (x.toBitVec.toNat % 256 / 16 % 4) := by
  rw [pk_and _ (m := 3) 2 (by decide)]
  congr 1
  have h : (x >>> ((4 : Int32) &&& 31)).toBitVec.toInt = x.toBitVec.toInt >>> 4 := pk_shr x ((4 : Int32) &&& 31) 4 (by decide)
  rw [BitVec.toInt_eq_toNat_cond, BitVec.toInt_eq_toNat_cond, Int.shiftRight_eq_div_pow] at h
  have h1 := (x >>> ((4 : Int32) &&& 31)).toBitVec.isLt
  have h2 := x.toBitVec.isLt
  generalize (x >>> ((4 : Int32) &&& 31)).toBitVec.toNat = m at h h1 ⊢
  generalize x.toBitVec.toNat = n at h h2 ⊢
  split at h <;> split at h <;> omega
theorem zt_k10 (x : Int32) : ∃ k : Nat, k < 10 ∧ (x &&& 15) - (x &&& 15) / 10 * 10 = nI k := by
  refine ⟨x.toBitVec.toNat % 2 ^ 4 % 10, by omega, ?_⟩
  rw [pk_and x (m := 15) 4 (by decide)]
  exact pk_rem (d := 10) (by omega) (by omega) (by omega)
end
section
/-! part 6: the law -/
theorem zt_if1 {α : Type} (Q : α → Prop) {u p : Nat} {a b : α} (hu : u < 4) (hp : p < 4) (h : Q (if u = p then a else b)) : (nI u = nI p → Q a) ∧ (¬ nI u = nI p → Q b) :=
  pk_eq u p (fun e => by rw [if_pos e] at h; exact h) (fun e => by rw [if_neg e] at h; exact h)
theorem zt_if2 (Q : Int32 → Prop) {t j u p : Nat} {a : Int32} (ht : t < 4) (hj : j < 4) (hu : u < 4) (hp : p < 4) (h : Q (if t = j ∧ u = p then a else 0)) :
    (nI t = nI j → ((nI u = nI p → Q a) ∧ (¬ nI u = nI p → Q 0))) ∧ (¬ nI t = nI j → Q 0) :=
  pk_eq t j (fun e => pk_eq u p (fun e' => by rw [if_pos ⟨e, e'⟩] at h; exact h) (fun e' => by rw [if_neg (fun g => e' g.2)] at h; exact h)) (fun e => by rw [if_neg (fun g => e g.1)] at h; exact h)
section
variable {lc ic tp ls : Int32} {a1 a2 a3 a4 a5 a6 a7 a8 a9 a10 a11 : Nat → Int32} {a12 : Nat → Int64} {a13 : Nat → Int32}
theorem zt_449 {post : Int32 → St0 → Prop} {mc ms kc ks : Nat} {x17 z0 z1 z2 z3 z4 : Int64} (h10 : a1 0 = 8) (h12 : a1 2 = 9) (h18 : a1 8 = -1) (h19 : a1 9 = 8) (h28 : a2 8 = 0) (h29 : a2 9 = 1)
    (h : x17 = z4 + (z3 + (z2 * (z1 + z0)))) (hp : post 1 ()) : wL_lawOf_449 post mc ms x17 z0 z1 z2 z3 z4 kc ks 3 2 8 ls a1 a2 a3 a4 a5 a6 a7 a8 a9 a10 a11 a12 a13 := by
  refine nm_e (br_t h (zt_swap h10 h18 h19 h28 (br_t rfl ?_)))
  exact zt_move (by rw [pk_un (by decide), pk_us]) (by rw [pk_un (by decide), pk_un (by decide)]; exact h12) (by rw [pk_un (by decide), pk_un (by decide)]; exact h18) pk_us pk_us (by rw [pk_un (by decide)]; exact h29) (fun b1 b2 b3 => br_t rfl hp)
theorem zt_331 {post : Int32 → St0 → Prop} {mc ms kc ks t u : Nat} {x10 x13 x14 x15 x16 x19 y19 : Int32} {x17 : Int64} (h10 : a1 0 = 8) (h12 : a1 2 = 9) (h18 : a1 8 = -1) (h19 : a1 9 = 8) (h28 : a2 8 = 0) (h29 : a2 9 = 1) (ht : t < 4) (hu : u < 4)
    (h : ∀ W X : Int64, W = 3 + (x19 * y19).toInt64 → X = (x10 - 1).toInt64 * (if t = u then x19 * y19 else 1).toInt64 →
      x17 = x13.toInt64 * (W + (if t = 0 then X else 0)) + x14.toInt64 * (W + (if t = 1 then X else 0)) + (x15.toInt64 * (W + (if t = 2 then X else 0)) + x16.toInt64 * (W + (if t = 3 then X else 0)))) (hp : post 1 ()) :
    wL_lawOf_331 post mc ms x10 (nI t) (nI u) x13 x14 x15 x16 x17 x19 y19 kc ks 3 2 8 ls a1 a2 a3 a4 a5 a6 a7 a8 a9 a10 a11 a12 a13 := by
  refine nm_e (fun W eW => ?_)
  refine zt_if1 (fun z => wL_lawOf_367 post mc ms (nI t) x13 x14 x15 x16 x17 W z ((x10 - 1).toInt64) kc ks 3 2 8 ls a1 a2 a3 a4 a5 a6 a7 a8 a9 a10 a11 a12 a13) ht hu (fun X eX => ?_)
  refine zt_if1 (fun z => wL_lawOf_387 post mc ms (nI t) x14 x15 x16 x17 W X z W x13.toInt64 kc ks 3 2 8 ls a1 a2 a3 a4 a5 a6 a7 a8 a9 a10 a11 a12 a13) (p := 0) ht (by omega) ?_
  refine zt_if1 (fun z => wL_lawOf_406 post mc ms (nI t) x15 x16 x17 W X z W x14.toInt64 (x13.toInt64 * (W + (if t = 0 then X else 0))) kc ks 3 2 8 ls a1 a2 a3 a4 a5 a6 a7 a8 a9 a10 a11 a12 a13) (p := 1) ht (by omega) (nm_e ?_)
  refine zt_if1 (fun z => wL_lawOf_430 post mc ms (nI t) x16 x17 W X z W x15.toInt64 (x13.toInt64 * (W + (if t = 0 then X else 0)) + x14.toInt64 * (W + (if t = 1 then X else 0))) kc ks 3 2 8 ls a1 a2 a3 a4 a5 a6 a7 a8 a9 a10 a11 a12 a13) (p := 2) ht (by omega) ?_
  refine zt_if1 (fun z => wL_lawOf_449 post mc ms x17 z W x16.toInt64 (x15.toInt64 * (W + (if t = 2 then X else 0))) (x13.toInt64 * (W + (if t = 0 then X else 0)) + x14.toInt64 * (W + (if t = 1 then X else 0))) kc ks 3 2 8 ls a1 a2 a3 a4 a5 a6 a7 a8 a9 a10 a11 a12 a13) (p := 3) ht (by omega) ?_
  exact zt_449 h10 h12 h18 h19 h28 h29 (h W X eW eX) hp
theorem zt_292 {post : Int32 → St0 → Prop} {mc ms kc ks t u k V0 V1 V2 : Nat} {R : Nat → Int32} {x13 x14 x15 z0 z1 : Int32} (h10 : a1 0 = 8) (h12 : a1 2 = 9) (h18 : a1 8 = -1) (h19 : a1 9 = 8) (h28 : a2 8 = 0) (h29 : a2 9 = 1) (h38 : a3 8 = 9) (h39 : a3 9 = 2)
    (hV0 : V0 < 256) (hV1 : V1 < 256) (hV2 : V2 < 256) (h40 : a4 0 = nI V0) (h41 : a4 1 = nI V1) (h42 : a4 2 = nI V2) (ht : t < 4) (hu : u < 4) (hk : k < 10) (h6 : ∀ j, j < 16 → R j = 1) (ha6 : a6 = upd R (4 * t + u) (nI k))
    (e13 : x13 = 1 + (if t = 0 ∧ u = V0 / 16 % 4 then nI k - 1 else 0)) (e14 : x14 = 1 + (if t = 1 ∧ u = V0 / 16 % 4 then nI k - 1 else 0)) (e15 : x15 = 1 + (if t = 2 ∧ u = V0 / 16 % 4 then nI k - 1 else 0)) (e16 : z1 + z0 = 1 + (if t = 3 ∧ u = V0 / 16 % 4 then nI k - 1 else 0)) (hp : post 1 ()) :
    wL_lawOf_292 post mc ms (nI (V1 / 16 % 4)) (nI (V2 / 16 % 4)) (nI k) (nI t) (nI u) x13 x14 x15 z0 z1 kc ks 3 2 8 ls a1 a2 a3 a4 a5 a6 a7 a8 a9 a10 a11 a12 a13 := by
  refine nm_r e16 (zt_weightW hV0 hV1 hV2 h40 h41 h42 h28 h38 h29 h39 (fun b7 b12 => ?_))
  refine zt_if1 (fun z => wL_lawOf_316 post mc ms (nI (V2 / 16 % 4)) (nI k) (nI t) (nI u) x13 x14 x15 (1 + (if t = 3 ∧ u = V0 / 16 % 4 then nI k - 1 else 0)) (zt_weight a6 (V0 / 16 % 4) (V1 / 16 % 4) (V2 / 16 % 4)) z kc ks 3 2 8 5 a1 a2 a3 a4 a5 a6 b7 a8 a9 a10 a11 b12 a13) hu (by omega) ?_
  refine zt_if1 (fun z => wL_lawOf_331 post mc ms (nI k) (nI t) (nI u) x13 x14 x15 (1 + (if t = 3 ∧ u = V0 / 16 % 4 then nI k - 1 else 0)) (zt_weight a6 (V0 / 16 % 4) (V1 / 16 % 4) (V2 / 16 % 4)) (if u = V1 / 16 % 4 then nI k else 1) z kc ks 3 2 8 5 a1 a2 a3 a4 a5 a6 b7 a8 a9 a10 a11 b12 a13) hu (by omega) ?_
  refine zt_331 h10 h12 h18 h19 h28 h29 ht hu (fun W X eW eX => ?_) hp
  rw [ha6, e13, e14, e15]
  exact zt_due (by omega) (by omega) (by omega) ht hu hk h6 rfl eW eX
theorem zt_137 {post : Int32 → St0 → Prop} {mc ms kc ks V0 V1 V2 : Nat} {x4 z0 : Int32} (h10 : a1 0 = 8) (h12 : a1 2 = 9) (h18 : a1 8 = -1) (h19 : a1 9 = 8) (h28 : a2 8 = 0) (h29 : a2 9 = 1) (h38 : a3 8 = 9) (h39 : a3 9 = 2)
    (hV0 : V0 < 256) (hV1 : V1 < 256) (hV2 : V2 < 256) (h40 : a4 0 = nI V0) (h41 : a4 1 = nI V1) (h42 : a4 2 = nI V2) (h6 : ∀ j, j < 16 → a6 j = 1)
    (hz : zt_least a5 (V0 / 16 % 4) (V1 / 16 % 4) (V2 / 16 % 4) = z0) (hp : post 1 ()) :
    wL_lawOf_137 post mc ms x4 (nI (V0 / 16 % 4)) (nI (V1 / 16 % 4)) (nI (V2 / 16 % 4)) z0 kc ks 3 2 8 ls a1 a2 a3 a4 a5 a6 a7 a8 a9 a10 a11 a12 a13 := by
  obtain ⟨k, hk, ek⟩ := zt_k10 x4
  obtain ⟨t, ht, et⟩ := pk_andE (x4 >>> ((4 : Int32) &&& 31)) (m := 3) 2 (by decide)
  obtain ⟨u, hu, eu⟩ := pk_andE (x4 >>> ((6 : Int32) &&& 31)) (m := 3) 2 (by decide)
  refine zt_leastW hV0 hV1 hV2 h40 h41 h42 h28 h38 h29 h39 (fun b7 b9 b10 => br_t hz ⟨by decide, nm_r ek (nm_r et (nm_r eu ?_))⟩)
  refine zt_rate ht hu hk h6 (br_t rfl ?_)
  refine zt_if2 (fun z => wL_lawOf_217 post mc ms (nI (V0 / 16 % 4)) (nI (V1 / 16 % 4)) (nI (V2 / 16 % 4)) (nI k) (nI t) (nI u) z 1 kc ks 3 2 8 5 a1 a2 a3 a4 a5 (upd a6 (4 * t + u) (nI k)) b7 a8 b9 b10 a11 a12 a13) (j := 0) ht (by omega) hu (by omega) (fun x13 e13 => ?_)
  refine zt_if2 (fun z => wL_lawOf_242 post mc ms (nI (V0 / 16 % 4)) (nI (V1 / 16 % 4)) (nI (V2 / 16 % 4)) (nI k) (nI t) (nI u) x13 z 1 kc ks 3 2 8 5 a1 a2 a3 a4 a5 (upd a6 (4 * t + u) (nI k)) b7 a8 b9 b10 a11 a12 a13) (j := 1) ht (by omega) hu (by omega) (fun x14 e14 => ?_)
  refine zt_if2 (fun z => wL_lawOf_267 post mc ms (nI (V0 / 16 % 4)) (nI (V1 / 16 % 4)) (nI (V2 / 16 % 4)) (nI k) (nI t) (nI u) x13 x14 z 1 kc ks 3 2 8 5 a1 a2 a3 a4 a5 (upd a6 (4 * t + u) (nI k)) b7 a8 b9 b10 a11 a12 a13) (j := 2) ht (by omega) hu (by omega) (fun x15 e15 => ?_)
  refine zt_if2 (fun z => wL_lawOf_292 post mc ms (nI (V1 / 16 % 4)) (nI (V2 / 16 % 4)) (nI k) (nI t) (nI u) x13 x14 x15 z 1 kc ks 3 2 8 5 a1 a2 a3 a4 a5 (upd a6 (4 * t + u) (nI k)) b7 a8 b9 b10 a11 a12 a13) (j := 3) ht (by omega) hu (by omega) ?_
  exact zt_292 h10 h12 h18 h19 h28 h29 h38 h39 hV0 hV1 hV2 h40 h41 h42 ht hu hk h6 rfl e13 e14 e15 rfl hp
theorem zt_cost3 {post : Int32 → St0 → Prop} {mc ms kc ks V0 V1 V2 : Nat} {x4 : Int32} (h10 : a1 0 = 8) (h12 : a1 2 = 9) (h18 : a1 8 = -1) (h19 : a1 9 = 8) (h28 : a2 8 = 0) (h29 : a2 9 = 1) (h38 : a3 8 = 9) (h39 : a3 9 = 2)
    (hV0 : V0 < 256) (hV1 : V1 < 256) (hV2 : V2 < 256) (h40 : a4 0 = nI V0) (h41 : a4 1 = nI V1) (h42 : a4 2 = nI V2) (h5 : ∀ j, j < 16 → a5 j = zt_C j) (h6 : ∀ j, j < 16 → a6 j = 1) (hp : post 1 ()) :
    (nI (V0 / 16 % 4) = nI (V1 / 16 % 4) →
      ((nI (V1 / 16 % 4) = nI (V2 / 16 % 4) → wL_lawOf_137 post mc ms x4 (nI (V0 / 16 % 4)) (nI (V1 / 16 % 4)) (nI (V2 / 16 % 4)) 0 kc ks 3 2 8 ls a1 a2 a3 a4 a5 a6 a7 a8 a9 a10 a11 a12 a13) ∧
      (¬ nI (V1 / 16 % 4) = nI (V2 / 16 % 4) → wL_lawOf_111 post mc ms x4 (nI (V0 / 16 % 4)) (nI (V1 / 16 % 4)) (nI (V2 / 16 % 4)) kc ks 3 2 8 ls a1 a2 a3 a4 a5 a6 a7 a8 a9 a10 a11 a12 a13))) ∧
    (¬ nI (V0 / 16 % 4) = nI (V1 / 16 % 4) → wL_lawOf_111 post mc ms x4 (nI (V0 / 16 % 4)) (nI (V1 / 16 % 4)) (nI (V2 / 16 % 4)) kc ks 3 2 8 ls a1 a2 a3 a4 a5 a6 a7 a8 a9 a10 a11 a12 a13) := by
  have E := zt_leastEq (p := V0 / 16 % 4) (q := V1 / 16 % 4) (z := V2 / 16 % 4) h5 (by omega) (by omega) (by omega)
  have go : ∀ z0 : Int32, (if V0 / 16 % 4 = V1 / 16 % 4 ∧ V1 / 16 % 4 = V2 / 16 % 4 then (0 : Int32) else if V0 / 16 % 4 = V1 / 16 % 4 ∨ V1 / 16 % 4 = V2 / 16 % 4 ∨ V0 / 16 % 4 = V2 / 16 % 4 then 1 else 2) = z0 →
      wL_lawOf_137 post mc ms x4 (nI (V0 / 16 % 4)) (nI (V1 / 16 % 4)) (nI (V2 / 16 % 4)) z0 kc ks 3 2 8 ls a1 a2 a3 a4 a5 a6 a7 a8 a9 a10 a11 a12 a13 :=
    fun z0 e => zt_137 h10 h12 h18 h19 h28 h29 h38 h39 hV0 hV1 hV2 h40 h41 h42 h6 (E.trans e) hp
  refine pk_eq (V0 / 16 % 4) (V1 / 16 % 4) (fun e1 => pk_eq (V1 / 16 % 4) (V2 / 16 % 4) (fun e2 => go 0 (if_pos ⟨e1, e2⟩)) (fun e2 => ?_)) (fun e1 => ?_)
  · exact pk_eq (V0 / 16 % 4) (V1 / 16 % 4) (fun _ => go 1 (by rw [if_neg (fun g => e2 g.2), if_pos (Or.inl e1)])) (fun z => absurd e1 z)
  · refine pk_eq (V0 / 16 % 4) (V1 / 16 % 4) (fun z => absurd z e1) (fun _ => pk_eq (V1 / 16 % 4) (V2 / 16 % 4) (fun e2 => go 1 (by rw [if_neg (fun g => e1 g.1), if_pos (Or.inr (Or.inl e2))])) (fun e2 => pk_eq (V0 / 16 % 4) (V2 / 16 % 4) (fun e3 => go 1 (by rw [if_neg (fun g => e1 g.1), if_pos (Or.inr (Or.inr e3))])) (fun e3 => go 2 ?_)))
    rw [if_neg (fun g => e1 g.1), if_neg (fun g => g.elim e1 (fun g => g.elim e2 e3))]
end
theorem zt_255 (x : Int32) : ∃ V : Nat, V < 256 ∧ x &&& 255 = nI V ∧ (x >>> ((4 : Int32) &&& 31)) &&& 3 = nI (V / 16 % 4) ∧ ¬ (x &&& 255) < 0 ∧ ¬ 255 < (x &&& 255) := by
  have e : x &&& 255 = nI (x.toBitVec.toNat % 256) := pk_and x (m := 255) 8 (by decide)
  refine ⟨x.toBitVec.toNat % 256, by omega, e, zt_sh x, ?_, ?_⟩
  · rw [e]
    exact nI_pos (by omega)
  · rw [e]
    exact nI_nlt (b := x.toBitVec.toNat % 256) (a := 255) (by omega) (by omega)
theorem zt_lawOf {post : Int32 → St0 → Prop} (p0 p1 p2 p3 p4 : Int32) (hp : post 1 ()) : wpL_lawOf post 14 364 () p0 p1 p2 p3 p4 := by
  obtain ⟨V0, hV0, e0, s0, n0, m0⟩ := zt_255 p0
  obtain ⟨V1, hV1, e1, s1, n1, m1⟩ := zt_255 p1
  obtain ⟨V2, hV2, e2, s2, n2, m2⟩ := zt_255 p2
  refine ⟨by decide, by decide, 13, 347, by decide, by decide, zt_init n0 m0 (fun b5 b6 h5 h6 => ?_)⟩
  refine zt_attach1 n1 m1 rfl (br_t rfl ?_)
  refine zt_attach2 n2 m2 rfl rfl (br_t rfl ?_)
  refine zt_parent rfl (br_t rfl ?_)
  refine zt_leavesBelow rfl rfl rfl rfl (fun b7 b8 => br_t rfl (nm_r s0 (nm_r s1 (nm_r s2 ?_))))
  exact zt_cost3 rfl rfl rfl rfl rfl rfl rfl rfl hV0 hV1 hV2 e0 e1 e2 h5 h6 hp
theorem zt_cell {post : Int32 → Prop} {L k : Nat} {xs : Nat → Int32} (hL : L ≤ 5) (hk : k < 5) (h : ∀ v, post v) : wpL_cellAt post L xs () (nI k) :=
  pk_le L k (fun _ => h 0) (fun z => ⟨pk_in k L z, h _⟩)
theorem i_vc (xs : Nat → Int32) (L : Nat) (hL : L ≤ 5) : wpL_law (fun r => r = 1) L xs :=
  zt_cell (k := 0) hL (by omega) (fun r1 => zt_cell (k := 1) hL (by omega) (fun r2 => zt_cell (k := 2) hL (by omega) (fun r3 => zt_cell (k := 3) hL (by omega) (fun r4 => zt_cell (k := 4) hL (by omega) (fun r5 => ⟨14, 364, by decide, by decide, zt_lawOf r1 r2 r3 r4 r5 rfl⟩)))))
end
