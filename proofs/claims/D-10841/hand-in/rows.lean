section
/-! ===== pure rows: what the loops compute, and small tables ===== -/
/-- the lesser of two, as the loops take it -/
def zt_mn (x y : Int32) : Int32 := if x ≤ y then x else y
/-- the least of the first n, from FAR -/
def zt_fm (f : Nat → Int32) : Nat → Int32
  | 0 => 100000
  | n + 1 => zt_mn (zt_fm f n) (f n)
/-- the sum of g where f is b -/
def zt_fn (f g : Nat → Int32) (b : Int32) : Nat → Int32
  | 0 => 0
  | n + 1 => zt_fn f g b n + (if f n = b then g n else 0)
/-- the set of places where f is b -/
def zt_fo (f : Nat → Int32) (b : Int32) : Nat → Int32
  | 0 => 0
  | n + 1 => if f n = b then zt_fo f b n ||| ((1 : Int32) <<< (nI n &&& 31)) else zt_fo f b n
/-- a sum of longs -/
def zt_fl (f : Nat → Int64) : Nat → Int64
  | 0 => 0
  | n + 1 => zt_fl f n + f n
/-- the cost of a change from s to d -/
def zt_e (s d : Nat) : Int32 := if s = d then 0 else 1
/-- a leaf's row of least costs -/
def zt_r (t d : Nat) : Int32 := if t = d then 0 else 100000
/-- a leaf's row of numbers -/
def zt_o (t d : Nat) : Int32 := if t = d then 1 else 0
/-- a leaf's row of weights -/
def zt_w (t d : Nat) : Int64 := if t = d then 1 else 0
/-- the state of v at site q -/
def zt_dg (v q : Nat) : Nat := v / 4 ^ (3 - q) % 4
def zt_cost (a : Nat → Int32) : Prop := ∀ i j, i < 4 → j < 4 → a (4 * i + j) = zt_e i j
def zt_rate (a : Nat → Int32) : Prop := ∀ k, k < 16 → a k = 1
theorem zt_dg4 (v q : Nat) : zt_dg v q < 4 := Nat.mod_lt _ (by decide)
theorem zt_fm_c {f g : Nat → Int32} : ∀ n, (∀ t, t < n → f t = g t) → zt_fm f n = zt_fm g n
  | 0, _ => rfl
  | n + 1, h => by
    show zt_mn (zt_fm f n) (f n) = zt_mn (zt_fm g n) (g n)
    rw [zt_fm_c n (fun t ht => h t (by omega)), h n (by omega)]
theorem zt_fn_c {f f' g g' : Nat → Int32} {b : Int32} : ∀ n, (∀ t, t < n → f t = f' t) → (∀ t, t < n → g t = g' t) → zt_fn f g b n = zt_fn f' g' b n
  | 0, _, _ => rfl
  | n + 1, h, h' => by
    show zt_fn f g b n + (if f n = b then g n else 0) = zt_fn f' g' b n + (if f' n = b then g' n else 0)
    rw [zt_fn_c n (fun t ht => h t (by omega)) (fun t ht => h' t (by omega)), h n (by omega), h' n (by omega)]
theorem zt_fo_c {f f' : Nat → Int32} {b : Int32} : ∀ n, (∀ t, t < n → f t = f' t) → zt_fo f b n = zt_fo f' b n
  | 0, _ => rfl
  | n + 1, h => by
    show (if f n = b then zt_fo f b n ||| ((1 : Int32) <<< (nI n &&& 31)) else zt_fo f b n) = (if f' n = b then zt_fo f' b n ||| ((1 : Int32) <<< (nI n &&& 31)) else zt_fo f' b n)
    rw [zt_fo_c n (fun t ht => h t (by omega)), h n (by omega)]
theorem zt_fl_c {f g : Nat → Int64} : ∀ n, (∀ t, t < n → f t = g t) → zt_fl f n = zt_fl g n
  | 0, _ => rfl
  | n + 1, h => by
    show zt_fl f n + f n = zt_fl g n + g n
    rw [zt_fl_c n (fun t ht => h t (by omega)), h n (by omega)]
theorem zt_t1 : ∀ s, s < 4 → ∀ d, d < 4 → zt_fm (fun t => zt_e s t + zt_r t d) 4 = zt_e s d := by decide +kernel
theorem zt_t2 : ∀ s, s < 4 → ∀ d, d < 4 → zt_fn (fun t => zt_e s t + zt_r t d) (fun t => zt_o t d) (zt_e s d) 4 = 1 := by decide +kernel
theorem zt_t3 : ∀ c, c < 4 → ∀ d, d < 4 → zt_fm (fun t => zt_e t c + zt_e t d) 4 = zt_e c d := by decide +kernel
theorem zt_t4 : ∀ c, c < 4 → ∀ d, d < 4 → zt_fn (fun t => zt_e t c + zt_e t d) (fun _ => 1) (zt_e c d) 4 = 1 + zt_e c d := by decide +kernel
theorem zt_t5 : ∀ c, c < 4 → ∀ d, d < 4 → zt_fo (fun t => zt_e t c + zt_e t d) (zt_e c d) 4 = ((1 : Int32) <<< (nI c &&& 31)) ||| ((1 : Int32) <<< (nI d &&& 31)) := by decide +kernel
theorem zt_t6 : ∀ d, d < 4 → zt_fm (fun t => zt_r t d) 4 = 0 := by decide +kernel
theorem zt_t7 : ∀ d, d < 4 → zt_fn (fun t => zt_r t d) (fun t => zt_o t d) 0 4 = 1 := by decide +kernel
theorem zt_t8 : ∀ d, d < 4 → zt_fl (fun t => (1 : Int32).toInt64 * zt_w t d) 4 = 1 := by decide +kernel
theorem zt_t9 : ∀ d, d < 4 → zt_fl (fun t => zt_w t d) 4 = 1 := by decide +kernel
theorem zt_t10 : zt_fl (fun _ => 1) 4 = 4 := by decide +kernel
/-- the law's own way to a state at a site -/
theorem zt_dig : ∀ q, q < 4 → ∀ v, v < 256 → ((nI v >>> ((6 - (2 * nI q)) &&& 31)) &&& 3) = nI (zt_dg v q) := by decide +kernel
theorem zt_ix (c t : Nat) : (4 : Int32) * nI c + nI t = nI (4 * c + t) := by
  rw [show (4 : Int32) = nI 4 from rfl, pk_mul, nI_add]
theorem zt_in {c t N : Nat} (h : 4 * c + t < N) (hN : N < 2 ^ 31 := by omega) : vp_in ((4 : Int32) * nI c + nI t) N := by
  rw [zt_ix]
  exact vp_in_nI h hN
theorem zt_cl {c t : Nat} (h : 4 * c + t < 2 ^ 31) : ((4 : Int32) * nI c + nI t).toNatClampNeg = 4 * c + t := by
  rw [zt_ix]
  exact nI_clamp h
theorem zt_mn_t {x y : Int32} (h : x ≤ y) : x = zt_mn x y := by rw [zt_mn, if_pos h]
theorem zt_mn_f {x y : Int32} (h : ¬ x ≤ y) : y = zt_mn x y := by rw [zt_mn, if_neg h]
end
section
/-! ===== the methods that store nothing ===== -/
section
variable {lc ic tp li : Int32} {a1 a2 a3 a4 a5 a6 a7 a8 a9 a10 a11 : Nat → Int32} {a12 : Nat → Int64} {a13 : Nat → Int32}
theorem zt_state_f {post : Int32 → Prop} {x : Int32} (h : x < 0 ∨ 3 < x) (H : post 0) : wpX_isState post () x :=
  br_c (fun _ => H) (fun g => br_t (h.resolve_left g) H)
theorem zt_state_t {post : Int32 → Prop} {x : Int32} (h : ¬ x < 0) (h' : ¬ 3 < x) (H : post 1) : wpX_isState post () x :=
  br_f h (br_f h' H)
theorem zt_states_f {post : Int32 → Prop} {x : Int32} (h : x < 0 ∨ 255 < x) (H : post 0) : wpX_isStates post () x :=
  br_c (fun _ => H) (fun g => br_t (h.resolve_left g) H)
theorem zt_states_t {post : Int32 → Prop} {x : Int32} (h : ¬ x < 0) (h' : ¬ 255 < x) (H : post 1) : wpX_isStates post () x :=
  br_f h (br_f h' H)
theorem zt_mb {post : Int32 → Prop} {q s : Nat} (hq : q < 4) (hs : s < 4) : ∀ k w, q + k ≤ 3 → w < 2 ^ 31 → post (zt_o s (w / 4 ^ k % 4)) → ∃ n, wX_mayBe_19 post (nI q) (nI s) lc ic tp li a1 a2 a3 a4 a5 a6 a7 a8 a9 a10 a11 a12 a13 n (nI w) (nI (q + k))
  | 0, w, hk, hw, H => by
    rw [Nat.pow_zero, Nat.div_one] at H
    refine ⟨1, pk_le (q + 0) q (fun _ => ⟨by decide, ?_⟩) (fun z => absurd z (by omega))⟩
    refine pk_eq (w % 4) s (fun e => ?_) (fun e => ?_) (pk_rem hw (by decide) (by decide)) rfl (by omega) (by omega)
    · rw [zt_o, if_pos e.symm] at H
      exact H
    · rw [zt_o, if_neg (fun z => e z.symm)] at H
      exact H
  | k + 1, w, hk, hw, H => by
    obtain ⟨n, hn⟩ := zt_mb (post := post) hq hs k (w / 4) (by omega) (by omega) (by rw [Nat.div_div_eq_div_mul, ← Nat.pow_succ']; exact H)
    exact ⟨n + 1, pk_le (q + (k + 1)) q (fun z => absurd z (by omega)) (fun _ => ⟨by decide, nm_r (pk_div hw (by decide) (by decide)) (nm_r (pk_m1 (q + k)) hn)⟩)⟩
theorem zt_mayLeaf {post : Int32 → Prop} {c q s v : Nat} (hc : c < 7) (hq : q < 4) (hs : s < 4) (hv : v < 2 ^ 31) (ha : a4 c = nI v) (H : post (zt_o s (zt_dg v q))) : wpX_mayBe post (lc, ic, tp, li, a1, a2, a3, a4, a5, a6, a7, a8, a9, a10, a11, a12, a13) (nI c) (nI q) (nI s) := by
  unfold wpX_mayBe
  refine pk_lt c 8 (fun _ => ⟨pk_in c 7 hc, nm_r (e' := nI v) (by rw [nI_clamp (by omega)]; exact ha) ?_⟩) (fun z => absurd z (by omega))
  have h := zt_mb (post := post) (lc := lc) (ic := ic) (tp := tp) (li := li) (a1 := a1) (a2 := a2) (a3 := a3) (a4 := a4) (a5 := a5) (a6 := a6) (a7 := a7) (a8 := a8) (a9 := a9) (a10 := a10) (a11 := a11) (a12 := a12) (a13 := a13) hq hs (3 - q) v (by omega) hv H
  rw [show q + (3 - q) = 3 by omega] at h
  exact h
theorem zt_mayIn {post : Int32 → Prop} {q s : Int32} (H : post 1) : wpX_mayBe post (lc, ic, tp, li, a1, a2, a3, a4, a5, a6, a7, a8, a9, a10, a11, a12, a13) (nI 8) q s :=
  br_f (by decide) H
theorem zt_leastUnder {post : Int32 → Prop} {c s : Nat} (hc : c < 14) (hs : s < 4) (H : post (zt_fm (fun t => a5 (4 * s + t) + a9 (4 * c + t)) 4)) : wpX_leastUnder post (lc, ic, tp, li, a1, a2, a3, a4, a5, a6, a7, a8, a9, a10, a11, a12, a13) (nI c) (nI s) := by
  unfold wpX_leastUnder
  refine pk_loop (fun n i x => wX_leastUnder_6 post (nI c) (nI s) lc ic tp li a1 a2 a3 a4 a5 a6 a7 a8 a9 a10 a11 a12 a13 n x (nI i)) (fun i x => x = zt_fm (fun t => a5 (4 * s + t) + a9 (4 * c + t)) i) 4 0 100000 (by omega) rfl ?_ ?_
  · intro n x h
    subst h
    exact pk_le 4 4 (fun _ => H) (fun z => absurd z (by omega))
  · intro n i x hi h hw
    refine pk_le 4 i (fun z => absurd z (by omega)) (fun _ => ⟨zt_in (by omega), zt_in (by omega), nm_r (e' := a5 (4 * s + i) + a9 (4 * c + i)) (by rw [zt_cl (by omega), zt_cl (by omega)]) ?_⟩)
    subst h
    exact br_c (fun g => nm_r (nI_1 i) (hw _ (zt_mn_t g))) (fun g => nm_r (nI_1 i) (hw _ (zt_mn_f g)))
/-- over a leaf's row -/
theorem zt_under {post : Int32 → Prop} {c s d : Nat} (hc : c < 14) (hs : s < 4) (hd : d < 4) (h5 : zt_cost a5) (h9 : ∀ t, t < 4 → a9 (4 * c + t) = zt_r t d) (H : post (zt_e s d)) : wpX_leastUnder post (lc, ic, tp, li, a1, a2, a3, a4, a5, a6, a7, a8, a9, a10, a11, a12, a13) (nI c) (nI s) := by
  refine zt_leastUnder hc hs ?_
  rw [zt_fm_c (g := fun t => zt_e s t + zt_r t d) 4 (fun t ht => by rw [h5 s t hs ht, h9 t ht]), zt_t1 s hs d hd]
  exact H
theorem zt_sumOver {post : Int64 → Prop} {c s : Nat} (hc : c < 14) (hs : s < 4) (H : post (zt_fl (fun t => (a6 (4 * s + t)).toInt64 * a12 (4 * c + t)) 4)) : wpX_sumOver post (lc, ic, tp, li, a1, a2, a3, a4, a5, a6, a7, a8, a9, a10, a11, a12, a13) (nI c) (nI s) := by
  unfold wpX_sumOver
  refine pk_loop (fun n i x => wX_sumOver_5 post (nI c) (nI s) lc ic tp li a1 a2 a3 a4 a5 a6 a7 a8 a9 a10 a11 a12 a13 n x (nI i)) (fun i x => x = zt_fl (fun t => (a6 (4 * s + t)).toInt64 * a12 (4 * c + t)) i) 4 0 0 (by omega) rfl ?_ ?_
  · intro n x h
    subst h
    exact pk_le 4 4 (fun _ => H) (fun z => absurd z (by omega))
  · intro n i x hi h hw
    refine pk_le 4 i (fun z => absurd z (by omega)) (fun _ => ⟨zt_in (by omega), zt_in (by omega), nm_r (e' := zt_fl (fun t => (a6 (4 * s + t)).toInt64 * a12 (4 * c + t)) (i + 1)) (by rw [zt_cl (by omega), zt_cl (by omega), h]; rfl) (nm_r (nI_1 i) (hw _ rfl))⟩)
/-- over a leaf's row, all rates 1 -/
theorem zt_sum1 {post : Int64 → Prop} {c s d : Nat} (hc : c < 14) (hs : s < 4) (hd : d < 4) (h6 : zt_rate a6) (h12 : ∀ t, t < 4 → a12 (4 * c + t) = zt_w t d) (H : post 1) : wpX_sumOver post (lc, ic, tp, li, a1, a2, a3, a4, a5, a6, a7, a8, a9, a10, a11, a12, a13) (nI c) (nI s) := by
  refine zt_sumOver hc hs ?_
  rw [zt_fl_c (g := fun t => (1 : Int32).toInt64 * zt_w t d) 4 (fun t ht => by rw [h6 _ (by omega), h12 t ht]), zt_t8 d hd]
  exact H
end
end
section
/-! ===== the list of nodes; the least costs from the leaves up ===== -/
section
variable {lc ic tp li : Int32} {a1 a2 a3 a4 a5 a6 a7 a8 a9 a10 a11 : Nat → Int32} {a12 : Nat → Int64} {a13 : Nat → Int32}
theorem zt_list1 {post : St2 → Prop} (h2 : a2 8 = nI 0) (h3 : a3 8 = nI 1) (H : ∀ b7 : Nat → Int32, b7 0 = nI 8 → b7 1 = nI 0 → b7 2 = nI 1 → post (lc, ic, nI 8, nI 3, a1, a2, a3, a4, a5, a6, b7, a8, a9, a10, a11, a12, a13)) : wpX_listNodes post (lc, ic, nI 8, li, a1, a2, a3, a4, a5, a6, a7, a8, a9, a10, a11, a12, a13) := by
  unfold wpX_listNodes
  refine nm_e ⟨4, ?_⟩
  have h := H (upd (upd (upd a7 0 (nI 8)) 1 (nI 0)) 2 (nI 1)) rfl rfl rfl
  refine br_f (by decide) (br_f (by decide) ⟨pk_in 0 14 (by decide), nm_r (e' := nI 8) rfl (br_f (by decide) ⟨pk_in 8 14 (by decide), pk_in 1 14 (by decide), nm_r (e' := upd (upd a7 0 (nI 8)) 1 (nI 0)) (congrArg (upd (upd a7 0 (nI 8)) 1) h2) ⟨pk_in 8 14 (by decide), pk_in 2 14 (by decide), nm_r (e' := upd (upd (upd a7 0 (nI 8)) 1 (nI 0)) 2 (nI 1)) (congrArg (upd (upd (upd a7 0 (nI 8)) 1 (nI 0)) 2) h3) (nm_r (e' := nI 3) rfl (nm_r (e' := nI 1) rfl ?_))⟩⟩)⟩)
  refine br_f (by decide) (br_f (by decide) ⟨pk_in 1 14 (by decide), nm_r (e' := nI 0) rfl (br_t (by decide) (nm_r (e' := nI 2) rfl ?_))⟩)
  refine br_f (by decide) (br_f (by decide) ⟨pk_in 2 14 (by decide), nm_r (e' := nI 1) rfl (br_t (by decide) (nm_r (e' := nI 3) rfl ?_))⟩)
  exact br_f (by decide) (br_t (by decide) h)
theorem zt_list0 {post : St2 → Prop} (H : ∀ b7 : Nat → Int32, b7 0 = nI 0 → post (lc, ic, nI 0, nI 1, a1, a2, a3, a4, a5, a6, b7, a8, a9, a10, a11, a12, a13)) : wpX_listNodes post (lc, ic, nI 0, li, a1, a2, a3, a4, a5, a6, a7, a8, a9, a10, a11, a12, a13) := by
  unfold wpX_listNodes
  refine nm_e ⟨2, ?_⟩
  have h := H (upd a7 0 (nI 0)) rfl
  refine br_f (by decide) (br_f (by decide) ⟨pk_in 0 14 (by decide), nm_r (e' := nI 0) rfl (br_t (by decide) (nm_r (e' := nI 1) rfl ?_))⟩)
  exact br_f (by decide) (br_t (by decide) h)
theorem zt_addChild {post : St2 → Prop} {x s c : Nat} {f : Nat → Int32} (hx : x < 14) (hs : s < 4) (hc : c < 14) (hf : f = fun t => a5 (4 * s + t) + a9 (4 * c + t))
    (H : post (lc, ic, tp, li, a1, a2, a3, a4, a5, a6, a7, a8, upd a9 (4 * x + s) (a9 (4 * x + s) + zt_fm f 4), upd a10 (4 * x + s) (a10 (4 * x + s) * zt_fn f (fun t => a10 (4 * c + t)) (zt_fm f 4) 4), a11, a12, a13)) : wpX_addChild post (lc, ic, tp, li, a1, a2, a3, a4, a5, a6, a7, a8, a9, a10, a11, a12, a13) (nI x) (nI s) (nI c) := by
  unfold wpX_addChild
  refine zt_leastUnder hc hs ?_
  rw [← hf]
  refine pk_loop (fun n i y => wX_addChild_14 post (nI x) (nI s) (nI c) (zt_fm f 4) lc ic tp li a1 a2 a3 a4 a5 a6 a7 a8 a9 a10 a11 a12 a13 n y (nI i)) (fun i y => y = zt_fn f (fun t => a10 (4 * c + t)) (zt_fm f 4) i) 4 0 0 (by omega) rfl ?_ ?_
  · intro n y h
    subst h
    refine pk_le 4 4 (fun _ => ?_) (fun z => absurd z (by omega))
    have e : ((4 : Int32) * nI x + nI s).toNatClampNeg = 4 * x + s := zt_cl (by omega)
    rw [e]
    exact ⟨zt_in (by omega), zt_in (by omega), nm_e ⟨zt_in (by omega), zt_in (by omega), nm_e H⟩⟩
  · intro n i y hi h hw
    refine pk_le 4 i (fun z => absurd z (by omega)) (fun _ => ⟨zt_in (by omega), zt_in (by omega), ?_⟩)
    have e1 : ((4 : Int32) * nI s + nI i).toNatClampNeg = 4 * s + i := zt_cl (by omega)
    have e2 : ((4 : Int32) * nI c + nI i).toNatClampNeg = 4 * c + i := zt_cl (by omega)
    rw [e1, e2]
    have e3 : a5 (4 * s + i) + a9 (4 * c + i) = f i := by rw [hf]
    rw [e3]
    refine br_c (fun g => ⟨zt_in (by omega), nm_e (nm_r (nI_1 i) (hw _ ?_))⟩) (fun g => nm_e (nm_r (nI_1 i) (hw _ ?_)))
    · rw [h]
      show _ = zt_fn f (fun t => a10 (4 * c + t)) (zt_fm f 4) i + (if f i = zt_fm f 4 then a10 (4 * c + i) else 0)
      rw [if_pos g]
    · rw [h]
      show _ = zt_fn f (fun t => a10 (4 * c + t)) (zt_fm f 4) i + (if f i = zt_fm f 4 then a10 (4 * c + i) else 0)
      rw [if_neg g]
/-- a leaf is added to a node -/
theorem zt_kid {post : St2 → Prop} {x s c d : Nat} (hx : x < 14) (hs : s < 4) (hc : c < 14) (hd : d < 4) (h5 : zt_cost a5) (h9 : ∀ t, t < 4 → a9 (4 * c + t) = zt_r t d) (h10 : ∀ t, t < 4 → a10 (4 * c + t) = zt_o t d)
    (H : ∀ b9 b10 : Nat → Int32, b9 (4 * x + s) = a9 (4 * x + s) + zt_e s d → b10 (4 * x + s) = a10 (4 * x + s) → (∀ j, j ≠ 4 * x + s → b9 j = a9 j ∧ b10 j = a10 j) → post (lc, ic, tp, li, a1, a2, a3, a4, a5, a6, a7, a8, b9, b10, a11, a12, a13)) : wpX_addChild post (lc, ic, tp, li, a1, a2, a3, a4, a5, a6, a7, a8, a9, a10, a11, a12, a13) (nI x) (nI s) (nI c) := by
  refine zt_addChild hx hs hc rfl ?_
  have e1 : zt_fm (fun t => a5 (4 * s + t) + a9 (4 * c + t)) 4 = zt_e s d := by
    rw [zt_fm_c (g := fun t => zt_e s t + zt_r t d) 4 (fun t ht => by rw [h5 s t hs ht, h9 t ht]), zt_t1 s hs d hd]
  have e2 : zt_fn (fun t => a5 (4 * s + t) + a9 (4 * c + t)) (fun t => a10 (4 * c + t)) (zt_e s d) 4 = 1 := by
    rw [zt_fn_c (f' := fun t => zt_e s t + zt_r t d) (g' := fun t => zt_o t d) 4 (fun t ht => by rw [h5 s t hs ht, h9 t ht]) h10, zt_t2 s hs d hd]
  rw [e1, e2]
  exact H _ _ pk_us (by rw [pk_us, Int32.mul_one]) (fun j hj => ⟨pk_un hj, pk_un hj⟩)
section
variable {post : Int32 → St2 → Prop} {J11 J25 : Int32 → Int32 → Int32 → Int32 → Int32 → (Nat → Int32) → (Nat → Int32) → (Nat → Int32) → (Nat → Int32) → (Nat → Int32) → (Nat → Int32) → (Nat → Int32) → (Nat → Int32) → (Nat → Int32) → (Nat → Int32) → (Nat → Int32) → (Nat → Int64) → (Nat → Int32) → Prop} {x2 : Int32}
theorem zt_85leaf {c i : Nat} {q z : Int32} (hc : c < 7) (hi : i < 4) (H : J25 (nI (i + 1)) lc ic tp li a1 a2 a3 a4 a5 a6 a7 a8 a9 (upd a10 (4 * c + i) z) a11 a12 a13) : wX_leastFor_85 post J11 J25 q x2 (nI c) (nI i) z ((4 : Int32) * nI c + nI i) lc ic tp li a1 a2 a3 a4 a5 a6 a7 a8 a9 a10 a11 a12 a13 := by
  unfold wX_leastFor_85
  refine ⟨zt_in (by omega), nm_r (e' := upd a10 (4 * c + i) z) (by rw [zt_cl (by omega)]) ?_⟩
  exact pk_lt c 8 (fun _ => nm_r (nI_1 i) H) (fun z => absurd z (by omega))
theorem zt_58leaf {c i q v : Nat} {z : Int32} (hc : c < 7) (hi : i < 4) (hq : q < 4) (hv : v < 2 ^ 31) (ha : a4 c = nI v) (H : J25 (nI (i + 1)) lc ic tp li a1 a2 a3 a4 a5 a6 a7 a8 (upd a9 (4 * c + i) z) (upd a10 (4 * c + i) (zt_o i (zt_dg v q))) a11 a12 a13) : wX_leastFor_58 post J11 J25 (nI q) x2 (nI c) (nI i) z ((4 : Int32) * nI c + nI i) lc ic tp li a1 a2 a3 a4 a5 a6 a7 a8 a9 a10 a11 a12 a13 := by
  unfold wX_leastFor_58
  refine ⟨zt_in (by omega), nm_r (e' := upd a9 (4 * c + i) z) (by rw [zt_cl (by omega)]) (zt_mayLeaf hc hq hi hv ha ?_)⟩
  by_cases e : i = zt_dg v q
  · rw [zt_o, if_pos e] at H ⊢
    exact br_f (by decide) (zt_85leaf hc hi H)
  · rw [zt_o, if_neg e] at H ⊢
    exact br_t rfl (zt_85leaf hc hi H)
/-- a leaf's turn -/
theorem zt_25leaf {c q v : Nat} (hc : c < 7) (hq : q < 4) (hv : v < 2 ^ 31) (ha : a4 c = nI v)
    (H : ∀ b9 b10 : Nat → Int32, (∀ t, t < 4 → b9 (4 * c + t) = zt_r t (zt_dg v q)) → (∀ t, t < 4 → b10 (4 * c + t) = zt_o t (zt_dg v q)) → (∀ j, (j < 4 * c ∨ 4 * c + 4 ≤ j) → b9 j = a9 j ∧ b10 j = a10 j) → J11 (x2 + (-1)) lc ic tp li a1 a2 a3 a4 a5 a6 a7 a8 b9 b10 a11 a12 a13) :
    ∃ n, wX_leastFor_25 post J11 (nI q) x2 (nI c) n 0 lc ic tp li a1 a2 a3 a4 a5 a6 a7 a8 a9 a10 a11 a12 a13 := by
  refine pk_loop (σ := (Nat → Int32) × (Nat → Int32)) (fun n i s => wX_leastFor_25 post J11 (nI q) x2 (nI c) n (nI i) lc ic tp li a1 a2 a3 a4 a5 a6 a7 a8 s.1 s.2 a11 a12 a13) (fun i s => (∀ t, t < i → s.1 (4 * c + t) = zt_r t (zt_dg v q) ∧ s.2 (4 * c + t) = zt_o t (zt_dg v q)) ∧ (∀ j, (j < 4 * c ∨ 4 * c + 4 ≤ j) → s.1 j = a9 j ∧ s.2 j = a10 j)) 4 0 (a9, a10) (by omega) ⟨fun t ht => absurd ht (by omega), fun j _ => ⟨rfl, rfl⟩⟩ ?_ ?_
  · rintro n ⟨b9, b10⟩ ⟨h1, h2⟩
    exact pk_le 4 4 (fun _ => nm_e (H b9 b10 (fun t ht => (h1 t ht).1) (fun t ht => (h1 t ht).2) h2)) (fun z => absurd z (by omega))
  · rintro n i ⟨b9, b10⟩ hi ⟨h1, h2⟩ hw
    dsimp only at h1 h2
    have hw' : ∀ z, z = zt_r i (zt_dg v q) → wX_leastFor_25 post J11 (nI q) x2 (nI c) n (nI (i + 1)) lc ic tp li a1 a2 a3 a4 a5 a6 a7 a8 (upd b9 (4 * c + i) z) (upd b10 (4 * c + i) (zt_o i (zt_dg v q))) a11 a12 a13 := fun z ez => by
      subst ez
      refine hw (upd b9 (4 * c + i) (zt_r i (zt_dg v q)), upd b10 (4 * c + i) (zt_o i (zt_dg v q))) ⟨fun t ht => ?_, fun j hj => ?_⟩
      · dsimp only
        by_cases e : t = i
        · rw [e, pk_us, pk_us]
          exact ⟨rfl, rfl⟩
        · rw [pk_un (by omega), pk_un (by omega)]
          exact h1 t (by omega)
      · dsimp only
        rw [pk_un (by omega), pk_un (by omega)]
        exact h2 j hj
    refine pk_le 4 i (fun z => absurd z (by omega)) (fun _ => zt_mayLeaf hc hq hi hv ha ?_)
    by_cases e : i = zt_dg v q
    · rw [zt_o, if_pos e]
      exact br_f (by decide) (zt_58leaf hc hi hq hv ha (hw' 0 (by rw [zt_r, if_pos e])))
    · rw [zt_o, if_neg e]
      exact br_t rfl (zt_58leaf hc hi hq hv ha (hw' 100000 (by rw [zt_r, if_neg e])))
/-- the root's turn, over two leaves -/
theorem zt_25in {q : Int32} {c d : Nat} (hc : c < 4) (hd : d < 4) (h5 : zt_cost a5) (h2 : a2 8 = nI 0) (h3 : a3 8 = nI 1)
    (r0 : ∀ t, t < 4 → a9 (4 * 0 + t) = zt_r t c) (r1 : ∀ t, t < 4 → a9 (4 * 1 + t) = zt_r t d) (o0 : ∀ t, t < 4 → a10 (4 * 0 + t) = zt_o t c) (o1 : ∀ t, t < 4 → a10 (4 * 1 + t) = zt_o t d)
    (H : ∀ b9 b10 : Nat → Int32, (∀ t, t < 4 → b9 (4 * 8 + t) = zt_e t c + zt_e t d) → (∀ t, t < 4 → b10 (4 * 8 + t) = 1) → J11 (x2 + (-1)) lc ic tp li a1 a2 a3 a4 a5 a6 a7 a8 b9 b10 a11 a12 a13) :
    ∃ n, wX_leastFor_25 post J11 q x2 (nI 8) n 0 lc ic tp li a1 a2 a3 a4 a5 a6 a7 a8 a9 a10 a11 a12 a13 := by
  refine pk_loop (σ := (Nat → Int32) × (Nat → Int32)) (fun n i s => wX_leastFor_25 post J11 q x2 (nI 8) n (nI i) lc ic tp li a1 a2 a3 a4 a5 a6 a7 a8 s.1 s.2 a11 a12 a13) (fun i s => (∀ t, t < i → s.1 (4 * 8 + t) = zt_e t c + zt_e t d ∧ s.2 (4 * 8 + t) = 1) ∧ (∀ j, j < 32 → s.1 j = a9 j ∧ s.2 j = a10 j)) 4 0 (a9, a10) (by omega) ⟨fun t ht => absurd ht (by omega), fun j _ => ⟨rfl, rfl⟩⟩ ?_ ?_
  · rintro n ⟨b9, b10⟩ ⟨h1, h2⟩
    exact pk_le 4 4 (fun _ => nm_e (H b9 b10 (fun t ht => (h1 t ht).1) (fun t ht => (h1 t ht).2))) (fun z => absurd z (by omega))
  · rintro n i ⟨b9, b10⟩ hi ⟨h1, h4⟩ hw
    dsimp only at h1 h4
    have e8 : ((4 : Int32) * nI 8 + nI i).toNatClampNeg = 4 * 8 + i := zt_cl (by omega)
    refine pk_le 4 i (fun z => absurd z (by omega)) (fun _ => zt_mayIn (br_f (by decide) ?_))
    unfold wX_leastFor_58
    refine ⟨zt_in (c := 8) (by omega), nm_r (e' := upd b9 (4 * 8 + i) 0) (by rw [e8]) (zt_mayIn (br_f (by decide) ?_))⟩
    unfold wX_leastFor_85
    refine ⟨zt_in (c := 8) (by omega), nm_r (e' := upd b10 (4 * 8 + i) 1) (by rw [e8]) (br_f (by decide) ⟨pk_in 8 14 (by decide), ?_⟩)⟩
    refine ek_v (P := fun y => wpX_addChild _ _ (nI 8) (nI i) y) (b := nI 0) h2 ?_
    refine zt_kid (by decide) hi (by decide) hc h5 (fun t ht => ?_) (fun t ht => ?_) (fun p9 p10 k1 k2 k3 => ⟨pk_in 8 14 (by decide), ?_⟩)
    · rw [pk_un (by omega), (h4 _ (by omega)).1]
      exact r0 t ht
    · rw [pk_un (by omega), (h4 _ (by omega)).2]
      exact o0 t ht
    refine ek_v (P := fun y => wpX_addChild _ _ (nI 8) (nI i) y) (b := nI 1) h3 ?_
    refine zt_kid (by decide) hi (by decide) hd h5 (fun t ht => ?_) (fun t ht => ?_) (fun q9 q10 l1 l2 l3 => nm_r (nI_1 i) (hw (q9, q10) ⟨fun t ht => ?_, fun j hj => ?_⟩))
    · rw [(k3 _ (by omega)).1, pk_un (by omega), (h4 _ (by omega)).1]
      exact r1 t ht
    · rw [(k3 _ (by omega)).2, pk_un (by omega), (h4 _ (by omega)).2]
      exact o1 t ht
    · dsimp only
      by_cases e : t = i
      · subst e
        rw [l1, l2, k1, k2, pk_us, pk_us, Int32.zero_add]
        exact ⟨rfl, rfl⟩
      · rw [(l3 _ (by omega)).1, (l3 _ (by omega)).2, (k3 _ (by omega)).1, (k3 _ (by omega)).2, pk_un (by omega), pk_un (by omega)]
        exact h1 t (by omega)
    · dsimp only
      rw [(l3 _ (by omega)).1, (l3 _ (by omega)).2, (k3 _ (by omega)).1, (k3 _ (by omega)).2, pk_un (by omega), pk_un (by omega)]
      exact h4 j hj
/-- the least at the root -/
theorem zt_135 {k : Nat} (hk : k < 14) (H : post (zt_fm (fun t => a9 (4 * k + t)) 4) (lc, ic, nI k, li, a1, a2, a3, a4, a5, a6, a7, a8, a9, a10, a11, a12, a13)) : ∃ n, wX_leastFor_135 post lc ic (nI k) li a1 a2 a3 a4 a5 a6 a7 a8 a9 a10 a11 a12 a13 n 100000 0 := by
  refine pk_loop (fun n i x => wX_leastFor_135 post lc ic (nI k) li a1 a2 a3 a4 a5 a6 a7 a8 a9 a10 a11 a12 a13 n x (nI i)) (fun i x => x = zt_fm (fun t => a9 (4 * k + t)) i) 4 0 100000 (by omega) rfl ?_ ?_
  · intro n x h
    subst h
    exact pk_le 4 4 (fun _ => H) (fun z => absurd z (by omega))
  · intro n i x hi h hw
    refine pk_le 4 i (fun z => absurd z (by omega)) (fun _ => ⟨zt_in (by omega), ?_⟩)
    have e : ((4 : Int32) * nI k + nI i).toNatClampNeg = 4 * k + i := zt_cl (by omega)
    rw [e]
    subst h
    exact br_c (fun g => nm_r (nI_1 i) (hw _ (zt_mn_t g))) (fun g => ⟨zt_in (by omega), nm_e (nm_r (nI_1 i) (hw _ (zt_mn_f g)))⟩)
/-- over two leaves -/
theorem zt_least1 {q v w : Nat} (hq : q < 4) (hv : v < 256) (hw : w < 256) (h2 : a2 8 = nI 0) (h3 : a3 8 = nI 1) (h40 : a4 0 = nI v) (h41 : a4 1 = nI w) (h5 : zt_cost a5)
    (H : ∀ b7 b9 b10 : Nat → Int32, b7 1 = nI 0 → b7 2 = nI 1 → (∀ t, t < 4 → b9 (4 * 8 + t) = zt_e t (zt_dg v q) + zt_e t (zt_dg w q)) → (∀ t, t < 4 → b10 (4 * 8 + t) = 1) → post (zt_e (zt_dg v q) (zt_dg w q)) (lc, ic, nI 8, nI 3, a1, a2, a3, a4, a5, a6, b7, a8, b9, b10, a11, a12, a13)) :
    wpX_leastFor post (lc, ic, nI 8, li, a1, a2, a3, a4, a5, a6, a7, a8, a9, a10, a11, a12, a13) (nI q) := by
  unfold wpX_leastFor
  refine zt_list1 h2 h3 (fun b7 e0 e1 e2 => ?_)
  refine nm_r (e' := nI 2) rfl ⟨4, ?_⟩
  refine br_f (by decide) ⟨pk_in 2 14 (by decide), nm_r (e' := nI 1) e2 (zt_25leaf (by decide) hq (by omega) h41 (fun b9 b10 r o _ => ?_))⟩
  refine br_f (by decide) ⟨pk_in 1 14 (by decide), nm_r (e' := nI 0) e1 (zt_25leaf (by decide) hq (by omega) h40 (fun p9 p10 r' o' k => ?_))⟩
  refine br_f (by decide) ⟨pk_in 0 14 (by decide), nm_r (e' := nI 8) e0 (zt_25in (zt_dg4 v q) (zt_dg4 w q) h5 h2 h3 r' (fun t ht => by rw [(k _ (by omega)).1]; exact r t ht) o' (fun t ht => by rw [(k _ (by omega)).2]; exact o t ht) (fun q9 q10 m m' => ?_))⟩
  refine br_t (by decide) (zt_135 (k := 8) (by decide) ?_)
  rw [zt_fm_c (g := fun t => zt_e t (zt_dg v q) + zt_e t (zt_dg w q)) 4 m, zt_t3 _ (zt_dg4 v q) _ (zt_dg4 w q)]
  exact H b7 q9 q10 e1 e2 m m'
/-- one leaf alone -/
theorem zt_least0 {q v : Nat} (hq : q < 4) (hv : v < 256) (h40 : a4 0 = nI v)
    (H : ∀ b7 b9 b10 : Nat → Int32, (∀ t, t < 4 → b9 (4 * 0 + t) = zt_r t (zt_dg v q)) → (∀ t, t < 4 → b10 (4 * 0 + t) = zt_o t (zt_dg v q)) → post 0 (lc, ic, nI 0, nI 1, a1, a2, a3, a4, a5, a6, b7, a8, b9, b10, a11, a12, a13)) :
    wpX_leastFor post (lc, ic, nI 0, li, a1, a2, a3, a4, a5, a6, a7, a8, a9, a10, a11, a12, a13) (nI q) := by
  unfold wpX_leastFor
  refine zt_list0 (fun b7 e0 => ?_)
  refine nm_r (e' := nI 0) rfl ⟨2, ?_⟩
  refine br_f (by decide) ⟨pk_in 0 14 (by decide), nm_r (e' := nI 0) e0 (zt_25leaf (by decide) hq (by omega) h40 (fun b9 b10 r o k => ?_))⟩
  refine br_t (by decide) (zt_135 (k := 0) (by decide) ?_)
  rw [zt_fm_c (g := fun t => zt_r t (zt_dg v q)) 4 r, zt_t6 _ (zt_dg4 v q)]
  exact H b7 b9 b10 r o
end
end
end
section
/-! ===== ways, states, weight ===== -/
section
variable {lc ic tp li : Int32} {a1 a2 a3 a4 a5 a6 a7 a8 a9 a10 a11 : Nat → Int32} {a12 : Nat → Int64} {a13 : Nat → Int32}
section
variable {post : Int32 → St2 → Prop}
theorem zt_20 {k : Nat} {b : Int32} (hk : k < 14) (H : post (zt_fn (fun t => a9 (4 * k + t)) (fun t => a10 (4 * k + t)) b 4) (lc, ic, nI k, li, a1, a2, a3, a4, a5, a6, a7, a8, a9, a10, a11, a12, a13)) : ∃ n, wX_ways_20 post b lc ic (nI k) li a1 a2 a3 a4 a5 a6 a7 a8 a9 a10 a11 a12 a13 n 0 0 := by
  refine pk_loop (fun n i x => wX_ways_20 post b lc ic (nI k) li a1 a2 a3 a4 a5 a6 a7 a8 a9 a10 a11 a12 a13 n x (nI i)) (fun i x => x = zt_fn (fun t => a9 (4 * k + t)) (fun t => a10 (4 * k + t)) b i) 4 0 0 (by omega) rfl ?_ ?_
  · intro n x h
    subst h
    exact pk_le 4 4 (fun _ => H) (fun z => absurd z (by omega))
  · intro n i x hi h hw
    refine pk_le 4 i (fun z => absurd z (by omega)) (fun _ => ⟨zt_in (by omega), ?_⟩)
    have e : ((4 : Int32) * nI k + nI i).toNatClampNeg = 4 * k + i := zt_cl (by omega)
    rw [e]
    refine br_c (fun g => ⟨zt_in (by omega), nm_e (nm_r (nI_1 i) (hw _ ?_))⟩) (fun g => nm_e (nm_r (nI_1 i) (hw _ ?_)))
    · rw [h]
      show _ = zt_fn (fun t => a9 (4 * k + t)) (fun t => a10 (4 * k + t)) b i + (if a9 (4 * k + i) = b then a10 (4 * k + i) else 0)
      rw [if_pos g]
    · rw [h]
      show _ = zt_fn (fun t => a9 (4 * k + t)) (fun t => a10 (4 * k + t)) b i + (if a9 (4 * k + i) = b then a10 (4 * k + i) else 0)
      rw [if_neg g]
theorem zt_36 {k : Nat} {b : Int32} (hk : k < 14) (H : post (zt_fo (fun t => a9 (4 * k + t) + a11 (4 * k + t)) b 4) (lc, ic, tp, li, a1, a2, a3, a4, a5, a6, a7, a8, a9, a10, a11, a12, a13)) : ∃ n, wX_states_36 post (nI k) b lc ic tp li a1 a2 a3 a4 a5 a6 a7 a8 a9 a10 a11 a12 a13 n 0 0 := by
  refine pk_loop (fun n i x => wX_states_36 post (nI k) b lc ic tp li a1 a2 a3 a4 a5 a6 a7 a8 a9 a10 a11 a12 a13 n x (nI i)) (fun i x => x = zt_fo (fun t => a9 (4 * k + t) + a11 (4 * k + t)) b i) 4 0 0 (by omega) rfl ?_ ?_
  · intro n x h
    subst h
    exact pk_le 4 4 (fun _ => H) (fun z => absurd z (by omega))
  · intro n i x hi h hw
    refine pk_le 4 i (fun z => absurd z (by omega)) (fun _ => ⟨zt_in (by omega), zt_in (by omega), ?_⟩)
    have e : ((4 : Int32) * nI k + nI i).toNatClampNeg = 4 * k + i := zt_cl (by omega)
    rw [e]
    refine br_c (fun g => nm_e (nm_r (nI_1 i) (hw _ ?_))) (fun g => nm_r (nI_1 i) (hw _ ?_))
    · rw [h]
      show _ = if a9 (4 * k + i) + a11 (4 * k + i) = b then zt_fo (fun t => a9 (4 * k + t) + a11 (4 * k + t)) b i ||| ((1 : Int32) <<< (nI i &&& 31)) else zt_fo (fun t => a9 (4 * k + t) + a11 (4 * k + t)) b i
      rw [if_pos g]
    · rw [h]
      show _ = if a9 (4 * k + i) + a11 (4 * k + i) = b then zt_fo (fun t => a9 (4 * k + t) + a11 (4 * k + t)) b i ||| ((1 : Int32) <<< (nI i &&& 31)) else zt_fo (fun t => a9 (4 * k + t) + a11 (4 * k + t)) b i
      rw [if_neg g]
end
/-! from the root down: only what it leaves alone is wanted -/
section
variable {post : St2 → Prop} {J29 J81 : Int32 → (Nat → Int32) → (Nat → Int32) → (Nat → Int32) → (Nat → Int32) → (Nat → Int32) → (Nat → Int32) → (Nat → Int32) → (Nat → Int32) → (Nat → Int32) → (Nat → Int32) → (Nat → Int32) → (Nat → Int64) → (Nat → Int32) → Prop} {x1 : Int32}
theorem zt_94 {x p o s : Nat} (hx : x < 14) (hp : p < 14) (ho : o < 14) (hs : s < 4) (H : ∀ y, J81 (nI (s + 1)) a1 a2 a3 a4 a5 a6 a7 a8 a9 a10 (upd a11 (4 * x + s) y) a12 a13) : ∃ n, wX_workDown_94 post J29 J81 x1 (nI x) (nI p) (nI o) (nI s) lc ic tp li a1 a2 a3 a4 a5 a6 a7 a8 a9 a10 a11 a12 a13 n 100000 0 := by
  refine pk_loop (fun n i y => wX_workDown_94 post J29 J81 x1 (nI x) (nI p) (nI o) (nI s) lc ic tp li a1 a2 a3 a4 a5 a6 a7 a8 a9 a10 a11 a12 a13 n y (nI i)) (fun _ _ => True) 4 0 100000 (by omega) trivial ?_ ?_
  · intro n y _
    exact pk_le 4 4 (fun _ => ⟨zt_in (by omega), nm_r (e' := upd a11 (4 * x + s) y) (by rw [zt_cl (by omega)]) (nm_r (nI_1 s) (H y))⟩) (fun z => absurd z (by omega))
  · intro n i y hi _ hw
    refine pk_le 4 i (fun z => absurd z (by omega)) (fun _ => zt_leastUnder ho hi ⟨zt_in (by omega), zt_in (by omega), nm_e ?_⟩)
    exact br_c (fun _ => nm_r (nI_1 i) (hw _ trivial)) (fun _ => nm_r (nI_1 i) (hw _ trivial))
theorem zt_81 {x p o : Nat} (hx : x < 8) (hp : p < 14) (ho : o < 14) (H : ∀ b11 : Nat → Int32, (∀ j, 32 ≤ j → b11 j = a11 j) → J29 (x1 + 1) a1 a2 a3 a4 a5 a6 a7 a8 a9 a10 b11 a12 a13) : ∃ n, wX_workDown_81 post J29 x1 (nI x) (nI p) (nI o) lc ic tp li n 0 a1 a2 a3 a4 a5 a6 a7 a8 a9 a10 a11 a12 a13 := by
  refine pk_loop (σ := Nat → Int32) (fun n i s => wX_workDown_81 post J29 x1 (nI x) (nI p) (nI o) lc ic tp li n (nI i) a1 a2 a3 a4 a5 a6 a7 a8 a9 a10 s a12 a13) (fun _ s => ∀ j, 32 ≤ j → s j = a11 j) 4 0 a11 (by omega) (fun j _ => rfl) ?_ ?_
  · intro n s h
    exact pk_le 4 4 (fun _ => nm_e (H s h)) (fun z => absurd z (by omega))
  · intro n i s hi h hw
    refine pk_le 4 i (fun z => absurd z (by omega)) (fun _ => zt_94 (by omega) hp ho hi (fun y => hw _ (fun j hj => ?_)))
    rw [pk_un (by omega)]
    exact h j hj
theorem zt_down (h1 : a1 0 = nI 8) (h1' : a1 1 = nI 8) (h2 : a2 8 = nI 0) (h3 : a3 8 = nI 1) (h7 : a7 1 = nI 0) (h7' : a7 2 = nI 1)
    (H : ∀ b11 : Nat → Int32, (∀ t, t < 4 → b11 (4 * 8 + t) = 0) → post (lc, ic, nI 8, nI 3, a1, a2, a3, a4, a5, a6, a7, a8, a9, a10, b11, a12, a13)) : wpX_workDown post (lc, ic, nI 8, nI 3, a1, a2, a3, a4, a5, a6, a7, a8, a9, a10, a11, a12, a13) := by
  unfold wpX_workDown
  refine pk_loop (σ := Nat → Int32) (fun n i s => wX_workDown_2 post lc ic (nI 8) (nI 3) n (nI i) a1 a2 a3 a4 a5 a6 a7 a8 a9 a10 s a12 a13) (fun i s => ∀ t, t < i → s (4 * 8 + t) = 0) 4 0 a11 (by omega) (fun t ht => absurd ht (by omega)) ?_ ?_
  · intro n s h
    refine pk_le 4 4 (fun _ => ⟨3, ?_⟩) (fun z => absurd z (by omega))
    refine br_f (by decide) ⟨pk_in 1 14 (by decide), nm_r (e' := nI 0) h7 ⟨pk_in 0 14 (by decide), nm_r (e' := nI 8) h1 ⟨pk_in 8 14 (by decide), br_t h2 ⟨pk_in 8 14 (by decide), nm_r (e' := nI 1) h3 (zt_81 (by decide) (by decide) (by decide) (fun b11 k => ?_))⟩⟩⟩⟩
    refine br_f (by decide) ⟨pk_in 2 14 (by decide), nm_r (e' := nI 1) h7' ⟨pk_in 1 14 (by decide), nm_r (e' := nI 8) h1' ⟨pk_in 8 14 (by decide), br_f (fun z => absurd (h2.symm.trans z) (by decide)) ⟨pk_in 8 14 (by decide), nm_r (e' := nI 0) h2 (zt_81 (by decide) (by decide) (by decide) (fun p11 k' => ?_))⟩⟩⟩⟩
    refine br_t (by decide) (H p11 (fun t ht => ?_))
    rw [k' _ (by omega), k _ (by omega)]
    exact h t ht
  · intro n i s hi h hw
    refine pk_le 4 i (fun z => absurd z (by omega)) (fun _ => ⟨zt_in (c := 8) (by omega), nm_r (e' := upd s (4 * 8 + i) 0) (by rw [show ((4 : Int32) * nI 8 + nI i).toNatClampNeg = 4 * 8 + i from zt_cl (by omega)]) (nm_r (nI_1 i) (hw _ (fun t ht => ?_)))⟩)
    by_cases e : t = i
    · rw [e, pk_us]
    · rw [pk_un (by omega)]
      exact h t (by omega)
end
/-! weights -/
section
variable {post : Int64 → St2 → Prop} {J22 J36 : Int32 → (Nat → Int32) → (Nat → Int32) → (Nat → Int32) → (Nat → Int32) → (Nat → Int32) → (Nat → Int32) → (Nat → Int32) → (Nat → Int32) → (Nat → Int32) → (Nat → Int32) → (Nat → Int32) → (Nat → Int64) → (Nat → Int32) → Prop} {x2 : Int32}
theorem zt_138 {k : Nat} (hk : k < 14) (H : post (zt_fl (fun t => a12 (4 * k + t)) 4) (lc, ic, nI k, li, a1, a2, a3, a4, a5, a6, a7, a8, a9, a10, a11, a12, a13)) : ∃ n, wX_weight_138 post lc ic (nI k) li a1 a2 a3 a4 a5 a6 a7 a8 a9 a10 a11 a12 a13 n 0 0 := by
  refine pk_loop (fun n i x => wX_weight_138 post lc ic (nI k) li a1 a2 a3 a4 a5 a6 a7 a8 a9 a10 a11 a12 a13 n x (nI i)) (fun i x => x = zt_fl (fun t => a12 (4 * k + t)) i) 4 0 0 (by omega) rfl ?_ ?_
  · intro n x h
    subst h
    exact pk_le 4 4 (fun _ => H) (fun z => absurd z (by omega))
  · intro n i x hi h hw
    exact pk_le 4 i (fun z => absurd z (by omega)) (fun _ => ⟨zt_in (by omega), nm_r (e' := zt_fl (fun t => a12 (4 * k + t)) (i + 1)) (by rw [zt_cl (by omega), h]; rfl) (nm_r (nI_1 i) (hw _ rfl))⟩)
theorem zt_36leaf {c q v : Nat} (hc : c < 7) (hq : q < 4) (hv : v < 2 ^ 31) (ha : a4 c = nI v)
    (H : ∀ b12 : Nat → Int64, (∀ t, t < 4 → b12 (4 * c + t) = zt_w t (zt_dg v q)) → (∀ j, (j < 4 * c ∨ 4 * c + 4 ≤ j) → b12 j = a12 j) → J22 (x2 + (-1)) a1 a2 a3 a4 a5 a6 a7 a8 a9 a10 a11 b12 a13) :
    ∃ n, wX_weight_36 post J22 (nI q) x2 (nI c) lc ic tp li n 0 a1 a2 a3 a4 a5 a6 a7 a8 a9 a10 a11 a12 a13 := by
  refine pk_loop (σ := Nat → Int64) (fun n i s => wX_weight_36 post J22 (nI q) x2 (nI c) lc ic tp li n (nI i) a1 a2 a3 a4 a5 a6 a7 a8 a9 a10 a11 s a13) (fun i s => (∀ t, t < i → s (4 * c + t) = zt_w t (zt_dg v q)) ∧ (∀ j, (j < 4 * c ∨ 4 * c + 4 ≤ j) → s j = a12 j)) 4 0 a12 (by omega) ⟨fun t ht => absurd ht (by omega), fun j _ => rfl⟩ ?_ ?_
  · rintro n s ⟨h1, h2⟩
    exact pk_le 4 4 (fun _ => nm_e (H s h1 h2)) (fun z => absurd z (by omega))
  · rintro n i s hi ⟨h1, h2⟩ hw
    have hw' : ∀ y, y = zt_w i (zt_dg v q) → wX_weight_36 post J22 (nI q) x2 (nI c) lc ic tp li n (nI (i + 1)) a1 a2 a3 a4 a5 a6 a7 a8 a9 a10 a11 (vp_updL s (4 * c + i) y) a13 := fun y ey => by
      subst ey
      refine hw _ ⟨fun t ht => ?_, fun j hj => ?_⟩
      · by_cases e : t = i
        · rw [e, pk_uLs]
        · rw [pk_uLn (by omega)]
          exact h1 t (by omega)
      · rw [pk_uLn (by omega)]
        exact h2 j hj
    refine pk_le 4 i (fun z => absurd z (by omega)) (fun _ => pk_lt c 8 (fun _ => ?_) (fun z => absurd z (by omega)))
    unfold wX_weight_64
    refine pk_lt c 8 (fun _ => ?_) (fun z => absurd z (by omega))
    unfold wX_weight_88
    refine zt_mayLeaf hc hq hi hv ha ?_
    have e0 : ((4 : Int32) * nI c + nI i).toNatClampNeg = 4 * c + i := zt_cl (by omega)
    rw [e0]
    by_cases e : i = zt_dg v q
    · rw [zt_o, if_pos e]
      exact br_f (by decide) ⟨zt_in (by omega), nm_e (nm_r (nI_1 i) (hw' _ (by rw [zt_w, if_pos e]; decide)))⟩
    · rw [zt_o, if_neg e]
      exact br_t rfl ⟨zt_in (by omega), nm_e (nm_r (nI_1 i) (hw' _ (by rw [zt_w, if_neg e])))⟩
theorem zt_36in {q : Int32} {c d : Nat} (hc : c < 4) (hd : d < 4) (h6 : zt_rate a6) (h2 : a2 8 = nI 0) (h3 : a3 8 = nI 1)
    (r0 : ∀ t, t < 4 → a12 (4 * 0 + t) = zt_w t c) (r1 : ∀ t, t < 4 → a12 (4 * 1 + t) = zt_w t d)
    (H : ∀ b12 : Nat → Int64, (∀ t, t < 4 → b12 (4 * 8 + t) = 1) → J22 (x2 + (-1)) a1 a2 a3 a4 a5 a6 a7 a8 a9 a10 a11 b12 a13) :
    ∃ n, wX_weight_36 post J22 q x2 (nI 8) lc ic tp li n 0 a1 a2 a3 a4 a5 a6 a7 a8 a9 a10 a11 a12 a13 := by
  refine pk_loop (σ := Nat → Int64) (fun n i s => wX_weight_36 post J22 q x2 (nI 8) lc ic tp li n (nI i) a1 a2 a3 a4 a5 a6 a7 a8 a9 a10 a11 s a13) (fun i s => (∀ t, t < i → s (4 * 8 + t) = 1) ∧ (∀ j, j < 32 → s j = a12 j)) 4 0 a12 (by omega) ⟨fun t ht => absurd ht (by omega), fun j _ => rfl⟩ ?_ ?_
  · rintro n s ⟨h1, _⟩
    exact pk_le 4 4 (fun _ => nm_e (H s h1)) (fun z => absurd z (by omega))
  · rintro n i s hi ⟨h1, h4⟩ hw
    have e0 : ((4 : Int32) * nI 8 + nI i).toNatClampNeg = 4 * 8 + i := zt_cl (by omega)
    refine pk_le 4 i (fun z => absurd z (by omega)) (fun _ => br_f (by decide) ⟨pk_in 8 14 (by decide), ?_⟩)
    refine ek_v (P := fun y => wpX_sumOver _ _ y (nI i)) (b := nI 0) h2 ?_
    refine zt_sum1 (by decide) hi hc h6 (fun t ht => by rw [h4 _ (by omega)]; exact r0 t ht) ?_
    unfold wX_weight_64
    refine br_f (by decide) ⟨pk_in 8 14 (by decide), ?_⟩
    refine ek_v (P := fun y => wpX_sumOver _ _ y (nI i)) (b := nI 1) h3 ?_
    refine zt_sum1 (by decide) hi hd h6 (fun t ht => by rw [h4 _ (by omega)]; exact r1 t ht) ?_
    unfold wX_weight_88
    refine zt_mayIn (br_f (by decide) ⟨zt_in (c := 8) (by omega), nm_r (e' := vp_updL s (4 * 8 + i) 1) (by rw [e0]; rfl) (nm_r (nI_1 i) (hw _ ⟨fun t ht => ?_, fun j hj => ?_⟩))⟩)
    · by_cases e : t = i
      · rw [e, pk_uLs]
      · rw [pk_uLn (by omega)]
        exact h1 t (by omega)
    · rw [pk_uLn (by omega)]
      exact h4 j hj
end
end
end
section
/-! ===== the class's calls, as the law makes them ===== -/
/-- two leaves under the root 8 -/
def zt_P1 (v w : Nat) (a1 a2 a3 a4 a5 a6 : Nat → Int32) : Prop := (v < 256 ∧ w < 256) ∧ (a1 0 = nI 8 ∧ a1 1 = nI 8) ∧ (a2 8 = nI 0 ∧ a3 8 = nI 1) ∧ (a4 0 = nI v ∧ a4 1 = nI w) ∧ zt_cost a5 ∧ zt_rate a6
/-- one leaf, the root -/
def zt_P0 (v : Nat) (a4 : Nat → Int32) : Prop := v < 256 ∧ a4 0 = nI v
theorem zt_q3 {q : Nat} (hq : q < 4) : ¬ (3 : Int32) < nI q := nI_nlt (a := 3) (by omega) (by decide)
section
variable {lc ic tp li : Int32} {a1 a2 a3 a4 a5 a6 a7 a8 a9 a10 a11 : Nat → Int32} {a12 : Nat → Int64} {a13 : Nat → Int32}
section
variable {post : Int32 → Prop}
theorem zt_node0 (H : post 1) : wpX_isNode post (nI 1, nI 0, tp, li, a1, a2, a3, a4, a5, a6, a7, a8, a9, a10, a11, a12, a13) (nI 0) := br_f (by decide) (br_t (by decide) H)
theorem zt_node0' (H : post 1) : wpX_isNode post (nI 2, nI 1, tp, li, a1, a2, a3, a4, a5, a6, a7, a8, a9, a10, a11, a12, a13) (nI 0) := br_f (by decide) (br_t (by decide) H)
theorem zt_node8 (H : post 1) : wpX_isNode post (nI 2, nI 1, tp, li, a1, a2, a3, a4, a5, a6, a7, a8, a9, a10, a11, a12, a13) (nI 8) := br_f (by decide) (br_f (by decide) (br_f (by decide) (br_f (by decide) H)))
theorem zt_node8' (H : post 0) : wpX_isNode post (nI 1, nI 0, tp, li, a1, a2, a3, a4, a5, a6, a7, a8, a9, a10, a11, a12, a13) (nI 8) := br_f (by decide) (br_f (by decide) (br_f (by decide) (br_t (by decide) H)))
theorem zt_lt1 {x : Int32} (h : ¬ x < 0) (h' : x < nI 1) : x = 0 := by
  obtain ⟨j, hj, rfl⟩ := nI_of h
  have : j < 1 := (nI_ltI hj (by decide)).mp h'
  rw [show j = 0 by omega, nI_0]
theorem zt_nodeN {x : Int32} (hx : ¬ x = 0) (H : post 0) : wpX_isNode post (nI 1, nI 0, tp, li, a1, a2, a3, a4, a5, a6, a7, a8, a9, a10, a11, a12, a13) x := by
  have h12 : wX_isNode_12 post x (nI 1) (nI 0) tp li a1 a2 a3 a4 a5 a6 a7 a8 a9 a10 a11 a12 a13 := by
    unfold wX_isNode_12
    refine br_c (fun _ => H) (fun g => br_t ?_ H)
    rw [show (8 : Int32) + nI 0 = 8 from rfl]
    exact Int32.not_lt.mp g
  exact br_c (fun _ => h12) (fun g => br_f (fun z => hx (zt_lt1 g z)) h12)
end
section
variable {post : Int32 → St2 → Prop}
theorem zt_leastN {x : Int32} (h : x < 0 ∨ 3 < x) (H : post (-1) (lc, ic, tp, li, a1, a2, a3, a4, a5, a6, a7, a8, a9, a10, a11, a12, a13)) : wpX_least post (lc, ic, tp, li, a1, a2, a3, a4, a5, a6, a7, a8, a9, a10, a11, a12, a13) x := by
  unfold wpX_least
  exact zt_state_f h (br_t rfl H)
theorem zt_leastM {v w q : Nat} (p : zt_P1 v w a1 a2 a3 a4 a5 a6) (hq : q < 4) (H : ∀ (l : Int32) (b7 b9 b10 : Nat → Int32), post (zt_e (zt_dg v q) (zt_dg w q)) (lc, ic, nI 8, l, a1, a2, a3, a4, a5, a6, b7, a8, b9, b10, a11, a12, a13)) : wpX_least post (lc, ic, nI 8, li, a1, a2, a3, a4, a5, a6, a7, a8, a9, a10, a11, a12, a13) (nI q) := by
  obtain ⟨⟨hv, hw⟩, _, ⟨h2, h3⟩, ⟨h4, h4'⟩, h5, h6⟩ := p
  unfold wpX_least
  exact zt_state_t (nI_pos (by omega)) (zt_q3 hq) (br_f (by decide) (zt_least1 hq hv hw h2 h3 h4 h4' h5 (fun b7 b9 b10 _ _ _ _ => H (nI 3) b7 b9 b10)))
theorem zt_leastO {v q : Nat} (p : zt_P0 v a4) (hq : q < 4) (H : ∀ (l : Int32) (b7 b9 b10 : Nat → Int32), post 0 (lc, ic, nI 0, l, a1, a2, a3, a4, a5, a6, b7, a8, b9, b10, a11, a12, a13)) : wpX_least post (lc, ic, nI 0, li, a1, a2, a3, a4, a5, a6, a7, a8, a9, a10, a11, a12, a13) (nI q) := by
  unfold wpX_least
  exact zt_state_t (nI_pos (by omega)) (zt_q3 hq) (br_f (by decide) (zt_least0 hq p.1 p.2 (fun b7 b9 b10 _ _ => H (nI 1) b7 b9 b10)))
theorem zt_waysN {x : Int32} (h : x < 0 ∨ 3 < x) (H : post (-1) (lc, ic, tp, li, a1, a2, a3, a4, a5, a6, a7, a8, a9, a10, a11, a12, a13)) : wpX_ways post (lc, ic, tp, li, a1, a2, a3, a4, a5, a6, a7, a8, a9, a10, a11, a12, a13) x := by
  unfold wpX_ways
  exact zt_state_f h (br_t rfl H)
theorem zt_waysM {v w q : Nat} (p : zt_P1 v w a1 a2 a3 a4 a5 a6) (hq : q < 4) (H : ∀ (l : Int32) (b7 b9 b10 : Nat → Int32), post (1 + zt_e (zt_dg v q) (zt_dg w q)) (lc, ic, nI 8, l, a1, a2, a3, a4, a5, a6, b7, a8, b9, b10, a11, a12, a13)) : wpX_ways post (lc, ic, nI 8, li, a1, a2, a3, a4, a5, a6, a7, a8, a9, a10, a11, a12, a13) (nI q) := by
  obtain ⟨⟨hv, hw⟩, _, ⟨h2, h3⟩, ⟨h4, h4'⟩, h5, h6⟩ := p
  unfold wpX_ways
  refine zt_state_t (nI_pos (by omega)) (zt_q3 hq) (br_f (by decide) (zt_least1 hq hv hw h2 h3 h4 h4' h5 (fun b7 b9 b10 _ _ r o => zt_20 (k := 8) (by decide) ?_)))
  rw [zt_fn_c (f' := fun t => zt_e t (zt_dg v q) + zt_e t (zt_dg w q)) (g' := fun _ => 1) 4 r o, zt_t4 _ (zt_dg4 v q) _ (zt_dg4 w q)]
  exact H (nI 3) b7 b9 b10
theorem zt_waysO {v q : Nat} (p : zt_P0 v a4) (hq : q < 4) (H : ∀ (l : Int32) (b7 b9 b10 : Nat → Int32), post 1 (lc, ic, nI 0, l, a1, a2, a3, a4, a5, a6, b7, a8, b9, b10, a11, a12, a13)) : wpX_ways post (lc, ic, nI 0, li, a1, a2, a3, a4, a5, a6, a7, a8, a9, a10, a11, a12, a13) (nI q) := by
  unfold wpX_ways
  refine zt_state_t (nI_pos (by omega)) (zt_q3 hq) (br_f (by decide) (zt_least0 hq p.1 p.2 (fun b7 b9 b10 r o => zt_20 (k := 0) (by decide) ?_)))
  rw [zt_fn_c (f' := fun t => zt_r t (zt_dg v q)) (g' := fun t => zt_o t (zt_dg v q)) 4 r o, zt_t7 _ (zt_dg4 v q)]
  exact H (nI 1) b7 b9 b10
theorem zt_statesO {x : Int32} (H : post (-1) (nI 1, nI 0, tp, li, a1, a2, a3, a4, a5, a6, a7, a8, a9, a10, a11, a12, a13)) : wpX_states post (nI 1, nI 0, tp, li, a1, a2, a3, a4, a5, a6, a7, a8, a9, a10, a11, a12, a13) (nI 8) x := by
  unfold wpX_states
  exact zt_node8' (br_t rfl H)
theorem zt_statesN {x : Int32} (h : x < 0 ∨ 3 < x) (H : post (-2) (nI 2, nI 1, tp, li, a1, a2, a3, a4, a5, a6, a7, a8, a9, a10, a11, a12, a13)) : wpX_states post (nI 2, nI 1, tp, li, a1, a2, a3, a4, a5, a6, a7, a8, a9, a10, a11, a12, a13) (nI 8) x := by
  unfold wpX_states
  exact zt_node8 (br_f (by decide) (zt_state_f h (br_t rfl H)))
theorem zt_statesM {v w q : Nat} (p : zt_P1 v w a1 a2 a3 a4 a5 a6) (hq : q < 4) (H : ∀ (l : Int32) (b7 b9 b10 b11 : Nat → Int32), post (((1 : Int32) <<< (nI (zt_dg v q) &&& 31)) ||| ((1 : Int32) <<< (nI (zt_dg w q) &&& 31))) (nI 2, nI 1, nI 8, l, a1, a2, a3, a4, a5, a6, b7, a8, b9, b10, b11, a12, a13)) : wpX_states post (nI 2, nI 1, nI 8, li, a1, a2, a3, a4, a5, a6, a7, a8, a9, a10, a11, a12, a13) (nI 8) (nI q) := by
  obtain ⟨⟨hv, hw⟩, ⟨h1, h1'⟩, ⟨h2, h3⟩, ⟨h4, h4'⟩, h5, h6⟩ := p
  unfold wpX_states
  refine zt_node8 (br_f (by decide) (zt_state_t (nI_pos (by omega)) (zt_q3 hq) (br_f (by decide) (zt_least1 hq hv hw h2 h3 h4 h4' h5 (fun b7 b9 b10 e e' r o => zt_down h1 h1' h2 h3 e e' (fun b11 k => zt_36 (k := 8) (by decide) ?_))))))
  rw [zt_fo_c (f' := fun t => zt_e t (zt_dg v q) + zt_e t (zt_dg w q)) 4 (fun t ht => by rw [r t ht, k t ht, Int32.add_zero]), zt_t5 _ (zt_dg4 v q) _ (zt_dg4 w q)]
  exact H (nI 3) b7 b9 b10 b11
theorem zt_mutM {w : Nat} {x : Int32} (h4 : a4 1 = nI w) (Hf : x < 0 ∨ 255 < x → post (-2) (nI 2, ic, tp, li, a1, a2, a3, a4, a5, a6, a7, a8, a9, a10, a11, a12, a13)) (Ht : ¬ x < 0 → ¬ 255 < x → ∀ b4 : Nat → Int32, post (nI w) (nI 2, ic, tp, li, a1, a2, a3, b4, a5, a6, a7, a8, a9, a10, a11, a12, a13)) : wpX_mutate post (nI 2, ic, tp, li, a1, a2, a3, a4, a5, a6, a7, a8, a9, a10, a11, a12, a13) (nI 1) x := by
  unfold wpX_mutate
  refine br_f (by decide) (br_t (by decide) ?_)
  by_cases h : x < 0
  · exact zt_states_f (Or.inl h) (br_t rfl (Hf (Or.inl h)))
  · by_cases h' : 255 < x
    · exact zt_states_f (Or.inr h') (br_t rfl (Hf (Or.inr h')))
    · exact zt_states_t h h' (br_f (by decide) ⟨pk_in 1 7 (by decide), nm_r (e' := nI w) h4 ⟨pk_in 1 7 (by decide), nm_e (Ht h h' _)⟩⟩)
theorem zt_mutO {x : Int32} (H : post (-1) (nI 1, ic, tp, li, a1, a2, a3, a4, a5, a6, a7, a8, a9, a10, a11, a12, a13)) : wpX_mutate post (nI 1, ic, tp, li, a1, a2, a3, a4, a5, a6, a7, a8, a9, a10, a11, a12, a13) (nI 1) x :=
  br_f (by decide) (br_f (by decide) H)
theorem zt_attN {x y : Int32} (hx : ¬ x = 0) (H : post (-1) (nI 1, nI 0, tp, li, a1, a2, a3, a4, a5, a6, a7, a8, a9, a10, a11, a12, a13)) : wpX_attach post (nI 1, nI 0, tp, li, a1, a2, a3, a4, a5, a6, a7, a8, a9, a10, a11, a12, a13) x y := by
  unfold wpX_attach
  exact zt_nodeN hx (br_t rfl H)
theorem zt_attO {y : Int32} (hy : y < 0 ∨ 255 < y) (H : post (-2) (nI 1, nI 0, tp, li, a1, a2, a3, a4, a5, a6, a7, a8, a9, a10, a11, a12, a13)) : wpX_attach post (nI 1, nI 0, tp, li, a1, a2, a3, a4, a5, a6, a7, a8, a9, a10, a11, a12, a13) (nI 0) y := by
  unfold wpX_attach
  exact zt_node0 (br_f (by decide) (zt_states_f hy (br_t rfl H)))
theorem zt_attM {y : Int32} (hy : ¬ y < 0) (hy' : ¬ 255 < y) (h1 : a1 0 = -1) (H : post 1 (nI 2, nI 1, nI 8, li, upd (upd (upd a1 8 (-1)) 0 (nI 8)) 1 (nI 8), upd a2 8 (nI 0), upd a3 8 (nI 1), upd a4 1 y, a5, a6, a7, a8, a9, a10, a11, a12, a13)) : wpX_attach post (nI 1, nI 0, nI 0, li, a1, a2, a3, a4, a5, a6, a7, a8, a9, a10, a11, a12, a13) (nI 0) y := by
  unfold wpX_attach
  refine zt_node0 (br_f (by decide) (zt_states_t hy hy' (br_f (by decide) (br_f (by decide) ?_))))
  unfold wpX_addLeaf
  refine nm_r (e' := nI 8) rfl (nm_r (e' := nI 2) rfl (nm_r (e' := nI 1) rfl ⟨pk_in 1 7 (by decide), nm_r (e' := upd a4 1 y) rfl ?_⟩))
  unfold wpX_replace
  refine ⟨pk_in 0 14 (by decide), nm_r (e' := -1) h1 ⟨pk_in 8 14 (by decide), nm_r (e' := upd a1 8 (-1)) rfl (br_t rfl ?_)⟩⟩
  exact ⟨pk_in 8 14 (by decide), nm_r (e' := upd a2 8 (nI 0)) rfl ⟨pk_in 8 14 (by decide), nm_r (e' := upd a3 8 (nI 1)) rfl ⟨pk_in 0 14 (by decide), nm_r (e' := upd (upd a1 8 (-1)) 0 (nI 8)) rfl ⟨pk_in 1 14 (by decide), nm_r (e' := upd (upd (upd a1 8 (-1)) 0 (nI 8)) 1 (nI 8)) rfl H⟩⟩⟩⟩
end
section
variable {post : Int64 → St2 → Prop}
theorem zt_weightN {x : Int32} (h : x < 0 ∨ 3 < x) (H : post (-1) (lc, ic, tp, li, a1, a2, a3, a4, a5, a6, a7, a8, a9, a10, a11, a12, a13)) : wpX_weight post (lc, ic, tp, li, a1, a2, a3, a4, a5, a6, a7, a8, a9, a10, a11, a12, a13) x := by
  unfold wpX_weight
  exact zt_state_f h (br_t rfl H)
theorem zt_weightM {v w q : Nat} (p : zt_P1 v w a1 a2 a3 a4 a5 a6) (hq : q < 4) (H : ∀ (l : Int32) (b7 : Nat → Int32) (b12 : Nat → Int64), post 4 (lc, ic, nI 8, l, a1, a2, a3, a4, a5, a6, b7, a8, a9, a10, a11, b12, a13)) : wpX_weight post (lc, ic, nI 8, li, a1, a2, a3, a4, a5, a6, a7, a8, a9, a10, a11, a12, a13) (nI q) := by
  obtain ⟨⟨hv, hw⟩, _, ⟨h2, h3⟩, ⟨h4, h4'⟩, h5, h6⟩ := p
  unfold wpX_weight
  refine zt_state_t (nI_pos (by omega)) (zt_q3 hq) (br_f (by decide) (zt_list1 h2 h3 (fun b7 e0 e1 e2 => ?_)))
  refine nm_r (e' := nI 2) rfl ⟨4, ?_⟩
  refine br_f (by decide) ⟨pk_in 2 14 (by decide), nm_r (e' := nI 1) e2 (zt_36leaf (by decide) hq (by omega) h4' (fun b12 r _ => ?_))⟩
  refine br_f (by decide) ⟨pk_in 1 14 (by decide), nm_r (e' := nI 0) e1 (zt_36leaf (by decide) hq (by omega) h4 (fun c12 r' k => ?_))⟩
  refine br_f (by decide) ⟨pk_in 0 14 (by decide), nm_r (e' := nI 8) e0 (zt_36in (zt_dg4 v q) (zt_dg4 w q) h6 h2 h3 r' (fun t ht => by rw [k _ (by omega)]; exact r t ht) (fun d12 m => ?_))⟩
  refine br_t (by decide) (zt_138 (k := 8) (by decide) ?_)
  rw [zt_fl_c (g := fun _ => 1) 4 m, zt_t10]
  exact H (nI 3) b7 d12
theorem zt_weightO {v q : Nat} (p : zt_P0 v a4) (hq : q < 4) (H : ∀ (l : Int32) (b7 : Nat → Int32) (b12 : Nat → Int64), post 1 (lc, ic, nI 0, l, a1, a2, a3, a4, a5, a6, b7, a8, a9, a10, a11, b12, a13)) : wpX_weight post (lc, ic, nI 0, li, a1, a2, a3, a4, a5, a6, a7, a8, a9, a10, a11, a12, a13) (nI q) := by
  obtain ⟨hv, h4⟩ := p
  unfold wpX_weight
  refine zt_state_t (nI_pos (by omega)) (zt_q3 hq) (br_f (by decide) (zt_list0 (fun b7 e0 => ?_)))
  refine nm_r (e' := nI 0) rfl ⟨2, ?_⟩
  refine br_f (by decide) ⟨pk_in 0 14 (by decide), nm_r (e' := nI 0) e0 (zt_36leaf (by decide) hq (by omega) h4 (fun b12 r _ => ?_))⟩
  refine br_t (by decide) (zt_138 (k := 0) (by decide) ?_)
  rw [zt_fl_c (g := fun t => zt_w t (zt_dg v q)) 4 r, zt_t9 _ (zt_dg4 v q)]
  exact H (nI 1) b7 b12
end
end
/-! the constructor -/
theorem zt_166 {post : St2 → Prop} {b5 b6 : Nat → Int32} {z : Int32} (H : post (1, 0, 0, 0, upd (fun _ => 0) 0 (-1), fun _ => 0, fun _ => 0, upd (fun _ => 0) 0 z, b5, b6, fun _ => 0, fun _ => 0, fun _ => 0, fun _ => 0, fun _ => 0, fun _ => 0, fun _ => 0)) :
    wX_init_166 post 13 347 z 0 13 347 0 0 0 0 (fun _ => 0) (fun _ => 0) (fun _ => 0) (fun _ => 0) b5 b6 (fun _ => 0) (fun _ => 0) (fun _ => 0) (fun _ => 0) (fun _ => 0) (fun _ => 0) (fun _ => 0) := by
  unfold wX_init_166
  exact ⟨pk_in 0 7 (by decide), nm_r (e' := upd (fun _ => 0) 0 z) rfl (nm_e H)⟩
theorem zt_init {post : St2 → Prop} {p z : Int32} (hz : ((p < 0 ∨ 255 < p) ∧ z = 0) ∨ ((¬ p < 0 ∧ ¬ 255 < p) ∧ z = p))
    (H : ∀ b5 b6 : Nat → Int32, zt_cost b5 → zt_rate b6 → post (1, 0, 0, 0, upd (fun _ => 0) 0 (-1), fun _ => 0, fun _ => 0, upd (fun _ => 0) 0 z, b5, b6, fun _ => 0, fun _ => 0, fun _ => 0, fun _ => 0, fun _ => 0, fun _ => 0, fun _ => 0)) :
    wpX_init post 13 347 (0, 0, 0, 0) p := by
  unfold wpX_init
  refine ⟨by decide, by decide, by decide, by decide, by decide, by decide, by decide, by decide, by decide, by decide, by decide, by decide, by decide, by decide, by decide, by decide, by decide, by decide, by decide, by decide, by decide, by decide, by decide, by decide, by decide, by decide, ?_⟩
  refine pk_loop (σ := (Nat → Int32) × (Nat → Int32)) (fun n i s => wX_init_110 post 13 347 p 13 347 0 0 0 0 n (nI i) (fun _ => 0) (fun _ => 0) (fun _ => 0) (fun _ => 0) s.1 s.2 (fun _ => 0) (fun _ => 0) (fun _ => 0) (fun _ => 0) (fun _ => 0) (fun _ => 0) (fun _ => 0)) (fun i s => ∀ j, j < i → s.1 j = zt_e (j / 4) (j % 4) ∧ s.2 j = 1) 16 0 (fun _ => 0, fun _ => 0) (by omega) (fun j hj => absurd hj (by omega)) ?_ ?_
  · rintro n ⟨b5, b6⟩ h
    have H' := H b5 b6 (fun i j hi hj => by
      have e := (h (4 * i + j) (by omega)).1
      rw [show (4 * i + j) / 4 = i by omega, show (4 * i + j) % 4 = j by omega] at e
      exact e) (fun k hk => (h k hk).2)
    refine pk_le 16 16 (fun _ => ?_) (fun z => absurd z (by omega))
    rcases hz with ⟨hp, rfl⟩ | ⟨⟨hp, hp'⟩, rfl⟩
    · exact zt_states_f hp (br_t rfl (zt_166 H'))
    · exact zt_states_t hp hp' (br_f (by decide) (zt_166 H'))
  · rintro n i ⟨b5, b6⟩ hi h hw
    have hs : ∀ y, y = zt_e (i / 4) (i % 4) → wX_init_135 post 13 347 (wX_init_110 post 13 347 p 13 347 0 0 0 0 n) p (nI i) y (nI i) 13 347 0 0 0 0 (fun _ => 0) (fun _ => 0) (fun _ => 0) (fun _ => 0) b5 b6 (fun _ => 0) (fun _ => 0) (fun _ => 0) (fun _ => 0) (fun _ => 0) (fun _ => 0) (fun _ => 0) := fun y ey => by
      unfold wX_init_135
      refine ⟨pk_in i 16 hi, nm_r (e' := upd b5 i y) (by rw [nI_clamp (by omega)]) ⟨pk_in i 16 hi, nm_r (e' := upd b6 i 1) (by rw [nI_clamp (by omega)]) (nm_r (nI_1 i) (hw (upd b5 i y, upd b6 i 1) (fun j hj => ?_)))⟩⟩
      dsimp only
      by_cases e : j = i
      · rw [e, pk_us, pk_us]
        exact ⟨ey, rfl⟩
      · rw [pk_un e, pk_un e]
        exact h j (by omega)
    exact pk_le 16 i (fun z => absurd z (by omega)) (fun _ => ⟨by decide, by decide, pk_eq (i / 4) (i % 4) (fun e => hs 0 (by rw [zt_e, if_pos e])) (fun e => hs 1 (by rw [zt_e, if_neg e])) (pk_div (by omega) (by decide) (by decide)) (pk_rem (by omega) (by decide) (by decide)) (by omega) (by omega)⟩)
end
section
/-! ===== the law, from its end to its head: M: a leaf was attached; O: none was; g: the site is one; n: it is none ===== -/
theorem zt_e01 (c d : Nat) : zt_e c d = 0 ∨ zt_e c d = 1 := by
  unfold zt_e
  by_cases h : c = d
  · rw [if_pos h]
    exact Or.inl rfl
  · rw [if_neg h]
    exact Or.inr rfl
section
variable {lc ic tp li : Int32} {a1 a2 a3 a4 a5 a6 a7 a8 a9 a10 a11 : Nat → Int32} {a12 : Nat → Int64} {a13 : Nat → Int32}
variable {post : Int32 → St0 → Prop} {mc ms kc ks : Nat} {x1 x2 x3 x4 x6 x11 z0 z1 : Int32} {y0 y1 : Int64} {v w q : Nat}
theorem zt_348M (hp : post 1 ()) (h4 : a4 1 = nI w) (hz : y1 = y0) : wL_lawOf_348 post mc ms (nI w) x4 1 y0 y1 kc ks (nI 2) ic tp li a1 a2 a3 a4 a5 a6 a7 a8 a9 a10 a11 a12 a13 := by
  have hF : (x4 < 0 ∨ 255 < x4) → wL_lawOf_372 post mc ms (nI w) x4 1 0 kc ks (nI 2) ic tp li a1 a2 a3 a4 a5 a6 a7 a8 a9 a10 a11 a12 a13 := fun h => by
    unfold wL_lawOf_372
    exact zt_mutM h4 (fun _ => br_f (by decide) (br_t rfl (br_t rfl hp))) (fun g g' => absurd h (fun z => z.elim g g'))
  have hT : ¬ x4 < 0 → ¬ 255 < x4 → wL_lawOf_372 post mc ms (nI w) x4 1 1 kc ks (nI 2) ic tp li a1 a2 a3 a4 a5 a6 a7 a8 a9 a10 a11 a12 a13 := fun g g' => by
    unfold wL_lawOf_372
    exact zt_mutM h4 (fun h => absurd h (fun z => z.elim g g')) (fun _ _ b4 => br_f (by decide) (br_f (by decide) (br_t rfl hp)))
  exact br_t hz (br_c (fun g => hF (Or.inl g)) (fun g => br_c (fun g' => hF (Or.inr g')) (fun g' => hT g g')))
theorem zt_348O (hp : post 1 ()) (hz : y1 = y0) : wL_lawOf_348 post mc ms x1 x4 0 y0 y1 kc ks (nI 1) ic tp li a1 a2 a3 a4 a5 a6 a7 a8 a9 a10 a11 a12 a13 := by
  have h : ∀ z, wL_lawOf_372 post mc ms x1 x4 0 z kc ks (nI 1) ic tp li a1 a2 a3 a4 a5 a6 a7 a8 a9 a10 a11 a12 a13 := fun z => by
    unfold wL_lawOf_372
    exact zt_mutO (br_t rfl (br_t rfl hp))
  exact br_t hz (br_c (fun _ => h 0) (fun _ => br_c (fun _ => h 0) (fun _ => h 1)))
theorem zt_314Mg (hp : post 1 ()) (p : zt_P1 v w a1 a2 a3 a4 a5 a6) (hq : q < 4) (hz : z1 = z0) : wL_lawOf_314 post mc ms (nI w) (nI q) x4 1 1 z0 z1 kc ks (nI 2) ic (nI 8) li a1 a2 a3 a4 a5 a6 a7 a8 a9 a10 a11 a12 a13 := by
  unfold wL_lawOf_314
  exact br_t hz (zt_weightM p hq (fun l b7 b12 => br_f (by decide) (br_f (by decide) (zt_348M hp p.2.2.2.1.2 rfl))))
theorem zt_314Mn (hp : post 1 ()) (p : zt_P1 v w a1 a2 a3 a4 a5 a6) (h3 : x3 < 0 ∨ 3 < x3) (hz : z1 = z0) : wL_lawOf_314 post mc ms (nI w) x3 x4 1 0 z0 z1 kc ks (nI 2) ic (nI 8) li a1 a2 a3 a4 a5 a6 a7 a8 a9 a10 a11 a12 a13 := by
  unfold wL_lawOf_314
  exact br_t hz (zt_weightN h3 (br_t rfl (zt_348M hp p.2.2.2.1.2 rfl)))
theorem zt_314Og (hp : post 1 ()) (p : zt_P0 v a4) (hq : q < 4) (hz : z1 = z0) : wL_lawOf_314 post mc ms x1 (nI q) x4 0 1 z0 z1 kc ks (nI 1) ic (nI 0) li a1 a2 a3 a4 a5 a6 a7 a8 a9 a10 a11 a12 a13 := by
  unfold wL_lawOf_314
  exact br_t hz (zt_weightO p hq (fun l b7 b12 => br_f (by decide) (br_t rfl (zt_348O hp rfl))))
theorem zt_314On (hp : post 1 ()) (h3 : x3 < 0 ∨ 3 < x3) (hz : z1 = z0) : wL_lawOf_314 post mc ms x1 x3 x4 0 0 z0 z1 kc ks (nI 1) ic (nI 0) li a1 a2 a3 a4 a5 a6 a7 a8 a9 a10 a11 a12 a13 := by
  unfold wL_lawOf_314
  exact br_t hz (zt_weightN h3 (br_t rfl (zt_348O hp rfl)))
theorem zt_264Mg (hp : post 1 ()) (p : zt_P1 v w a1 a2 a3 a4 a5 a6) (hq : q < 4) (hz : z1 = z0) : wL_lawOf_264 post mc ms (nI w) (nI q) x4 (nI v) 1 1 (6 - 2 * nI q) z0 z1 kc ks (nI 2) (nI 1) (nI 8) li a1 a2 a3 a4 a5 a6 a7 a8 a9 a10 a11 a12 a13 := by
  unfold wL_lawOf_264
  exact br_t hz (zt_statesM p hq (fun l b7 b9 b10 b11 => br_f (by decide) (br_f (by decide) (zt_314Mg hp p hq (by rw [zt_dig q hq v p.1.1, zt_dig q hq w p.1.2])))))
theorem zt_264Mn (hp : post 1 ()) (p : zt_P1 v w a1 a2 a3 a4 a5 a6) (h3 : x3 < 0 ∨ 3 < x3) (hz : z1 = z0) : wL_lawOf_264 post mc ms (nI w) x3 x4 x6 1 0 x11 z0 z1 kc ks (nI 2) (nI 1) (nI 8) li a1 a2 a3 a4 a5 a6 a7 a8 a9 a10 a11 a12 a13 := by
  unfold wL_lawOf_264
  exact br_t hz (zt_statesN h3 (br_f (by decide) (br_t rfl (zt_314Mn hp p h3 rfl))))
theorem zt_264Og (hp : post 1 ()) (p : zt_P0 v a4) (hq : q < 4) (hz : z1 = z0) : wL_lawOf_264 post mc ms x1 (nI q) x4 x6 0 1 x11 z0 z1 kc ks (nI 1) (nI 0) (nI 0) li a1 a2 a3 a4 a5 a6 a7 a8 a9 a10 a11 a12 a13 := by
  unfold wL_lawOf_264
  exact br_t hz (zt_statesO (br_t rfl (zt_314Og hp p hq rfl)))
theorem zt_264On (hp : post 1 ()) (h3 : x3 < 0 ∨ 3 < x3) (hz : z1 = z0) : wL_lawOf_264 post mc ms x1 x3 x4 x6 0 0 x11 z0 z1 kc ks (nI 1) (nI 0) (nI 0) li a1 a2 a3 a4 a5 a6 a7 a8 a9 a10 a11 a12 a13 := by
  unfold wL_lawOf_264
  exact br_t hz (zt_statesO (br_t rfl (zt_314On hp h3 rfl)))
theorem zt_234Mg (hp : post 1 ()) (p : zt_P1 v w a1 a2 a3 a4 a5 a6) (hq : q < 4) (hz : z1 = z0) : wL_lawOf_234 post mc ms (nI w) (nI q) x4 (nI v) 1 1 (6 - 2 * nI q) (zt_e (zt_dg v q) (zt_dg w q)) z0 z1 kc ks (nI 2) (nI 1) (nI 8) li a1 a2 a3 a4 a5 a6 a7 a8 a9 a10 a11 a12 a13 := by
  unfold wL_lawOf_234
  exact br_t hz (zt_waysM p hq (fun l b7 b9 b10 => br_f (by decide) (br_c (fun g => zt_264Mg hp p hq (by rw [g]; rfl)) (fun g => zt_264Mg hp p hq (by rw [(zt_e01 _ _).resolve_left g]; rfl)))))
theorem zt_234Mn (hp : post 1 ()) (p : zt_P1 v w a1 a2 a3 a4 a5 a6) (h3 : x3 < 0 ∨ 3 < x3) (hz : z1 = z0) : wL_lawOf_234 post mc ms (nI w) x3 x4 x6 1 0 x11 x2 z0 z1 kc ks (nI 2) (nI 1) (nI 8) li a1 a2 a3 a4 a5 a6 a7 a8 a9 a10 a11 a12 a13 := by
  unfold wL_lawOf_234
  exact br_t hz (zt_waysN h3 (br_t rfl (zt_264Mn hp p h3 rfl)))
theorem zt_234Og (hp : post 1 ()) (p : zt_P0 v a4) (hq : q < 4) (hz : z1 = z0) : wL_lawOf_234 post mc ms x1 (nI q) x4 x6 0 1 x11 0 z0 z1 kc ks (nI 1) (nI 0) (nI 0) li a1 a2 a3 a4 a5 a6 a7 a8 a9 a10 a11 a12 a13 := by
  unfold wL_lawOf_234
  exact br_t hz (zt_waysO p hq (fun l b7 b9 b10 => br_f (by decide) (br_t rfl (zt_264Og hp p hq rfl))))
theorem zt_234On (hp : post 1 ()) (h3 : x3 < 0 ∨ 3 < x3) (hz : z1 = z0) : wL_lawOf_234 post mc ms x1 x3 x4 x6 0 0 x11 0 z0 z1 kc ks (nI 1) (nI 0) (nI 0) li a1 a2 a3 a4 a5 a6 a7 a8 a9 a10 a11 a12 a13 := by
  unfold wL_lawOf_234
  exact br_t hz (zt_waysN h3 (br_t rfl (zt_264On hp h3 rfl)))
theorem zt_207Mg (hp : post 1 ()) (p : zt_P1 v w a1 a2 a3 a4 a5 a6) (hq : q < 4) (hz : z0 = zt_e (zt_dg v q) (zt_dg w q)) : wL_lawOf_207 post mc ms (nI w) (nI q) x4 (nI v) 1 1 (6 - 2 * nI q) z0 kc ks (nI 2) (nI 1) (nI 8) li a1 a2 a3 a4 a5 a6 a7 a8 a9 a10 a11 a12 a13 := by
  subst hz
  unfold wL_lawOf_207
  exact zt_leastM p hq (fun l b7 b9 b10 => br_f (by decide) (br_c (fun g => zt_234Mg hp p hq g) (fun g => zt_234Mg hp p hq ((zt_e01 _ _).resolve_left g))))
theorem zt_207Mn (hp : post 1 ()) (p : zt_P1 v w a1 a2 a3 a4 a5 a6) (h3 : x3 < 0 ∨ 3 < x3) : wL_lawOf_207 post mc ms (nI w) x3 x4 x6 1 0 x11 z0 kc ks (nI 2) (nI 1) (nI 8) li a1 a2 a3 a4 a5 a6 a7 a8 a9 a10 a11 a12 a13 := by
  unfold wL_lawOf_207
  exact zt_leastN h3 (br_t rfl (zt_234Mn hp p h3 rfl))
theorem zt_207Og (hp : post 1 ()) (p : zt_P0 v a4) (hq : q < 4) : wL_lawOf_207 post mc ms x1 (nI q) x4 x6 0 1 x11 0 kc ks (nI 1) (nI 0) (nI 0) li a1 a2 a3 a4 a5 a6 a7 a8 a9 a10 a11 a12 a13 := by
  unfold wL_lawOf_207
  exact zt_leastO p hq (fun l b7 b9 b10 => br_f (by decide) (br_t rfl (zt_234Og hp p hq rfl)))
theorem zt_207On (hp : post 1 ()) (h3 : x3 < 0 ∨ 3 < x3) : wL_lawOf_207 post mc ms x1 x3 x4 x6 0 0 x11 0 kc ks (nI 1) (nI 0) (nI 0) li a1 a2 a3 a4 a5 a6 a7 a8 a9 a10 a11 a12 a13 := by
  unfold wL_lawOf_207
  exact zt_leastN h3 (br_t rfl (zt_234On hp h3 rfl))
theorem zt_site (h : ¬ x3 < 0) (h' : ¬ 3 < x3) : ∃ q : Nat, q < 4 ∧ x3 = nI q := by
  obtain ⟨q, hq, rfl⟩ := nI_of h
  refine ⟨q, ?_, rfl⟩
  have : ¬ 3 < q := fun z => h' (nI_lt (a := 3) z hq)
  omega
theorem zt_143M (hp : post 1 ()) (p : zt_P1 v w a1 a2 a3 a4 a5 a6) (hz : z1 = z0) : wL_lawOf_143 post mc ms (nI w) x3 x4 (nI v) 1 z0 z1 kc ks (nI 2) (nI 1) (nI 8) li a1 a2 a3 a4 a5 a6 a7 a8 a9 a10 a11 a12 a13 := by
  have hF : (x3 < 0 ∨ 3 < x3) → wL_lawOf_162 post mc ms (nI w) x3 x4 (nI v) 1 0 kc ks (nI 2) (nI 1) (nI 8) li a1 a2 a3 a4 a5 a6 a7 a8 a9 a10 a11 a12 a13 := fun h => by
    unfold wL_lawOf_162
    refine br_t rfl ?_
    unfold wL_lawOf_179
    exact br_f (by decide) (br_c (fun _ => zt_207Mn hp p h) (fun _ => zt_207Mn hp p h))
  have hT : ¬ x3 < 0 → ¬ 3 < x3 → wL_lawOf_162 post mc ms (nI w) x3 x4 (nI v) 1 1 kc ks (nI 2) (nI 1) (nI 8) li a1 a2 a3 a4 a5 a6 a7 a8 a9 a10 a11 a12 a13 := fun h h' => by
    obtain ⟨q, hq, rfl⟩ := zt_site h h'
    have dv := zt_dg4 v q
    have dw := zt_dg4 w q
    unfold wL_lawOf_162
    refine br_f (by decide) ?_
    unfold wL_lawOf_179
    exact br_f (by decide) (pk_eq (zt_dg v q) (zt_dg w q) (fun e => zt_207Mg hp p hq (by rw [zt_e, if_pos e])) (fun e => zt_207Mg hp p hq (by rw [zt_e, if_neg e])) (zt_dig q hq v p.1.1) (zt_dig q hq w p.1.2) (by omega) (by omega))
  exact br_t hz (br_c (fun g => hF (Or.inl g)) (fun g => br_c (fun g' => hF (Or.inr g')) (fun g' => hT g g')))
theorem zt_143O (hp : post 1 ()) (p : zt_P0 v a4) (hz : z1 = z0) : wL_lawOf_143 post mc ms x1 x3 x4 x6 0 z0 z1 kc ks (nI 1) (nI 0) (nI 0) li a1 a2 a3 a4 a5 a6 a7 a8 a9 a10 a11 a12 a13 := by
  have hF : (x3 < 0 ∨ 3 < x3) → wL_lawOf_162 post mc ms x1 x3 x4 x6 0 0 kc ks (nI 1) (nI 0) (nI 0) li a1 a2 a3 a4 a5 a6 a7 a8 a9 a10 a11 a12 a13 := fun h => by
    unfold wL_lawOf_162
    refine br_t rfl ?_
    unfold wL_lawOf_179
    exact br_t rfl (zt_207On hp h)
  have hT : ¬ x3 < 0 → ¬ 3 < x3 → wL_lawOf_162 post mc ms x1 x3 x4 x6 0 1 kc ks (nI 1) (nI 0) (nI 0) li a1 a2 a3 a4 a5 a6 a7 a8 a9 a10 a11 a12 a13 := fun h h' => by
    obtain ⟨q, hq, rfl⟩ := zt_site h h'
    unfold wL_lawOf_162
    refine br_f (by decide) ?_
    unfold wL_lawOf_179
    exact br_t rfl (zt_207Og hp p hq)
  exact br_t hz (br_c (fun g => hF (Or.inl g)) (fun g => br_c (fun g' => hF (Or.inr g')) (fun g' => hT g g')))
theorem zt_101M (hp : post 1 ()) (p : zt_P1 v w a1 a2 a3 a4 a5 a6) (hz : z1 = z0) : wL_lawOf_101 post mc ms (nI w) x3 x4 (nI v) 1 z0 z1 kc ks (nI 2) (nI 1) (nI 8) li a1 a2 a3 a4 a5 a6 a7 a8 a9 a10 a11 a12 a13 := by
  have h : wL_lawOf_122 post mc ms (nI w) x3 x4 (nI v) 1 8 (nI 8) kc ks (nI 2) (nI 1) (nI 8) li a1 a2 a3 a4 a5 a6 a7 a8 a9 a10 a11 a12 a13 := by
    unfold wL_lawOf_122
    refine br_t rfl ?_
    unfold wpX_parent
    exact zt_node0' (br_f (by decide) (br_f (by decide) ⟨pk_in 0 14 (by decide), br_f (by decide) (zt_143M hp p p.2.1.1)⟩))
  exact br_t hz (br_f (by decide) h)
theorem zt_101O (hp : post 1 ()) (p : zt_P0 v a4) (hz : z1 = z0) : wL_lawOf_101 post mc ms x1 x3 x4 x6 0 z0 z1 kc ks (nI 1) (nI 0) (nI 0) li a1 a2 a3 a4 a5 a6 a7 a8 a9 a10 a11 a12 a13 := by
  have h : wL_lawOf_122 post mc ms x1 x3 x4 x6 0 0 (nI 0) kc ks (nI 1) (nI 0) (nI 0) li a1 a2 a3 a4 a5 a6 a7 a8 a9 a10 a11 a12 a13 := by
    unfold wL_lawOf_122
    refine br_t rfl ?_
    unfold wpX_parent
    exact zt_node0 (br_f (by decide) (br_t rfl (br_t rfl (zt_143O hp p rfl))))
  exact br_t hz (br_t rfl h)
/-- behind the constructor -/
theorem zt_26 (hp : post 1 ()) (hv : v < 256) (h1 : a1 0 = -1) (h4 : a4 0 = nI v) (h5 : zt_cost a5) (h6 : zt_rate a6) : wL_lawOf_26 post mc ms x1 x2 x3 x4 (nI v) kc ks (nI 1) (nI 0) (nI 0) li a1 a2 a3 a4 a5 a6 a7 a8 a9 a10 a11 a12 a13 := by
  have p0 : zt_P0 v a4 := ⟨hv, h4⟩
  refine br_c (fun e => ?_) (fun e => ?_)
  · subst e
    have hF : (x1 < 0 ∨ 255 < x1) → wL_lawOf_55 post mc ms x1 0 x3 x4 (nI v) 1 0 kc ks (nI 1) (nI 0) (nI 0) li a1 a2 a3 a4 a5 a6 a7 a8 a9 a10 a11 a12 a13 := fun h => by
      unfold wL_lawOf_55
      refine br_f (by decide) (br_t rfl ?_)
      unfold wL_lawOf_71 wL_lawOf_72
      exact zt_attO h (br_f (by decide) (br_t rfl (zt_101O hp p0 rfl)))
    have hT : ¬ x1 < 0 → ¬ 255 < x1 → wL_lawOf_55 post mc ms x1 0 x3 x4 (nI v) 1 1 kc ks (nI 1) (nI 0) (nI 0) li a1 a2 a3 a4 a5 a6 a7 a8 a9 a10 a11 a12 a13 := fun h h' => by
      obtain ⟨w, hw, rfl⟩ := nI_of h
      have hw' : w < 256 := by
        have : ¬ 255 < w := fun z => h' (nI_lt (a := 255) z hw)
        omega
      unfold wL_lawOf_55
      refine br_f (by decide) (br_f (by decide) ?_)
      unfold wL_lawOf_72
      exact zt_attM h h' h1 (br_f (by decide) (br_f (by decide) (zt_101M hp ⟨⟨hv, hw'⟩, ⟨rfl, rfl⟩, ⟨rfl, rfl⟩, ⟨h4, rfl⟩, h5, h6⟩ rfl)))
    unfold wL_lawOf_37
    exact br_c (fun g => hF (Or.inl g)) (fun g => br_c (fun g' => hF (Or.inr g')) (fun g' => hT g g'))
  · have h : ∀ z, wL_lawOf_55 post mc ms x1 x2 x3 x4 (nI v) 0 z kc ks (nI 1) (nI 0) (nI 0) li a1 a2 a3 a4 a5 a6 a7 a8 a9 a10 a11 a12 a13 := fun z => by
      unfold wL_lawOf_55
      refine br_t rfl ?_
      unfold wL_lawOf_71 wL_lawOf_72
      exact zt_attN e (br_t rfl (zt_101O hp p0 rfl))
    unfold wL_lawOf_37
    exact br_c (fun _ => h 0) (fun _ => br_c (fun _ => h 0) (fun _ => h 1))
end
theorem zt_lawOf {post : Int32 → St0 → Prop} (hp : post 1 ()) (p0 p1 p2 p3 p4 : Int32) : wpL_lawOf post 14 364 () p0 p1 p2 p3 p4 := by
  unfold wpL_lawOf
  refine ⟨by decide, by decide, 13, 347, by decide, by decide, ?_⟩
  by_cases h : p0 < 0
  · refine zt_init (z := 0) (Or.inl ⟨Or.inl h, rfl⟩) (fun b5 b6 h5 h6 => br_t h ?_)
    exact zt_26 (v := 0) hp (by decide) rfl rfl h5 h6
  · by_cases h' : 255 < p0
    · refine zt_init (z := 0) (Or.inl ⟨Or.inr h', rfl⟩) (fun b5 b6 h5 h6 => br_f h (br_f (Int32.not_le.mpr h') ?_))
      exact zt_26 (v := 0) hp (by decide) rfl rfl h5 h6
    · obtain ⟨v, hv, rfl⟩ := nI_of h
      have hv' : v < 256 := by
        have : ¬ 255 < v := fun z => h' (nI_lt (a := 255) z hv)
        omega
      exact zt_init (z := nI v) (Or.inr ⟨⟨h, h'⟩, rfl⟩) (fun b5 b6 h5 h6 => br_f h (br_t (Int32.not_lt.mp h') (zt_26 hp hv' rfl rfl h5 h6)))
theorem zt_cell {post : Int32 → Prop} {L k : Nat} {xs : Nat → Int32} (hL : L ≤ 5) (hk : k < 5) (H : ∀ r, post r) : wpL_cellAt post L xs () (nI k) :=
  pk_le L k (fun _ => H 0) (fun z => ⟨pk_in k L z, H _⟩)
end
section
theorem i_vc (xs : Nat → Int32) (L : Nat) (hL : L ≤ 5) : wpL_law (fun r => r = 1) L xs :=
  zt_cell (k := 0) hL (by decide) (fun r1 => zt_cell (k := 1) hL (by decide) (fun r2 => zt_cell (k := 2) hL (by decide) (fun r3 => zt_cell (k := 3) hL (by decide) (fun r4 => zt_cell (k := 4) hL (by decide) (fun r5 =>
    ⟨14, 364, by decide, by decide, zt_lawOf (post := fun r _ => r = 1) rfl r1 r2 r3 r4 r5⟩)))))
end
