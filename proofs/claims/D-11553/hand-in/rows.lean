section
/-! reads and writes at a known place -/
theorem qp_at {f : Nat → Int32} {x v : Int32} (n : Nat) (h : f n = v) (hx : x = nI n := by rfl) (hn : n < 2 ^ 31 := by omega) : f x.toNatClampNeg = v := by
  subst hx
  rw [nI_clamp hn]
  exact h
theorem qp_up {f : Nat → Int32} {x v : Int32} (n : Nat) (hx : x = nI n := by rfl) (hn : n < 2 ^ 31 := by omega) : upd f x.toNatClampNeg v = upd f n v := by
  subst hx
  rw [nI_clamp hn]
theorem qp_uv {f : Nat → Int32} {x v w : Int32} (n : Nat) (hv : v = w) (hx : x = nI n := by rfl) (hn : n < 2 ^ 31 := by omega) : upd f x.toNatClampNeg v = upd f n w := by
  subst hx hv
  rw [nI_clamp hn]
theorem qp_ne {f : Nat → Int32} {x v w : Int32} (n : Nat) (h : f n = v) (hv : v ≠ w) (hx : x = nI n := by rfl) (hn : n < 2 ^ 31 := by omega) : ¬ f x.toNatClampNeg = w := by
  rw [qp_at n h hx hn]
  exact hv
theorem qp_lt {f : Nat → Int32} {x v w : Int32} (n : Nat) (h : f n = v) (hv : v < w) (hx : x = nI n := by rfl) (hn : n < 2 ^ 31 := by omega) : f x.toNatClampNeg < w := by
  rw [qp_at n h hx hn]
  exact hv
theorem qp_nlt {f : Nat → Int32} {x v w : Int32} (n : Nat) (h : f n = v) (hv : ¬ v < w) (hx : x = nI n := by rfl) (hn : n < 2 ^ 31 := by omega) : ¬ f x.toNatClampNeg < w := by
  rw [qp_at n h hx hn]
  exact hv
theorem qp_le {f : Nat → Int32} {x v w : Int32} (n : Nat) (h : f n = v) (hv : w ≤ v) (hx : x = nI n := by rfl) (hn : n < 2 ^ 31 := by omega) : w ≤ f x.toNatClampNeg := by
  rw [qp_at n h hx hn]
  exact hv
theorem qp_nle {f : Nat → Int32} {x v w : Int32} (n : Nat) (h : f n = v) (hv : ¬ w ≤ v) (hx : x = nI n := by rfl) (hn : n < 2 ^ 31 := by omega) : ¬ w ≤ f x.toNatClampNeg := by
  rw [qp_at n h hx hn]
  exact hv
theorem qp_inT {f : Nat → Int32} {x : Int32} (n k N : Nat) (h : f n = nI k) (hk : k < N) (hx : x = nI n := by rfl) (hn : n < 2 ^ 31 := by omega) (hN : N < 2 ^ 31 := by omega) : vp_in (f x.toNatClampNeg) N := by
  rw [qp_at n h hx hn]
  exact vp_in_nI hk hN
/-! the compiler's small methods -/
theorem qp_put {post : St2 → Prop} {tb nd cl mp wd nr lo rr rz : Int32} {a1 a2 a3 a4 a5 a6 a7 a8 a9 a10 a11 a12 a13 a14 a15 a16 a17 a18 a19 a20 a21 a22 a23 a24 a25 a26 a27 a28 a29 a30 : Nat → Int32} {op a b c : Int32} (n l : Nat) (d : Int32) (hn : n < 192) (hl8 : l ≤ 8)
    (hd : (if l = 0 then 0 else a19 (l - 1)) = d)
    (hp : post (tb, nd, nI (n + 1), mp, wd, nr, lo, rr, rz, a1, a2, a3, a4, a5, a6, a7, a8, a9, a10, a11, a12, a13, upd a14 n op, upd a15 n a, upd a16 n b, upd a17 n c, upd a18 n d, a19, a20, a21, a22, a23, a24, a25, a26, a27, a28, a29, a30))
    (hc : cl = nI n := by rfl) (hl : lo = nI l := by rfl) :
    wpX_put post (tb, nd, cl, mp, wd, nr, lo, rr, rz, a1, a2, a3, a4, a5, a6, a7, a8, a9, a10, a11, a12, a13, a14, a15, a16, a17, a18, a19, a20, a21, a22, a23, a24, a25, a26, a27, a28, a29, a30) op a b c := by
  subst hc hl
  unfold wpX_put
  refine ⟨pk_in n 192 hn, nm_r (qp_up n) ⟨pk_in n 192 hn, nm_r (qp_up n) ⟨pk_in n 192 hn, nm_r (qp_up n) ⟨pk_in n 192 hn, nm_r (qp_up n) (pk_le l 0 (fun z => ?_) (fun z => ?_))⟩⟩⟩⟩
  · have e : l = 0 := by omega
    subst e
    have hd' : (0 : Int32) = d := hd
    subst hd'
    exact And.intro (pk_in n 192 hn) (nm_r (qp_up n) (nm_r (nI_1 n) hp))
  · obtain ⟨k, rfl⟩ : ∃ k, l = k + 1 := ⟨l - 1, by omega⟩
    have hd' : a19 k = d := by simpa using hd
    exact ⟨pk_in k 8 (by omega) (nI_pred k), And.intro (pk_in n 192 hn) (nm_r (qp_uv n (qp_at k hd' (nI_pred k))) (nm_r (nI_1 n) hp))⟩
theorem qp_open {post : St2 → Prop} {tb nd cl mp wd nr lo rr rz : Int32} {a1 a2 a3 a4 a5 a6 a7 a8 a9 a10 a11 a12 a13 a14 a15 a16 a17 a18 a19 a20 a21 a22 a23 a24 a25 a26 a27 a28 a29 a30 : Nat → Int32} (l : Nat) (h : l < 8) (hp : post (tb, nd, cl, mp, wd, nr, nI (l + 1), rr, rz, a1, a2, a3, a4, a5, a6, a7, a8, a9, a10, a11, a12, a13, a14, a15, a16, a17, a18, upd a19 l cl, a20, a21, a22, a23, a24, a25, a26, a27, a28, a29, a30)) (hl : lo = nI l := by rfl) :
    wpX_openLoop post (tb, nd, cl, mp, wd, nr, lo, rr, rz, a1, a2, a3, a4, a5, a6, a7, a8, a9, a10, a11, a12, a13, a14, a15, a16, a17, a18, a19, a20, a21, a22, a23, a24, a25, a26, a27, a28, a29, a30) := by
  subst hl
  unfold wpX_openLoop
  exact ⟨pk_in l 8 h, nm_r (qp_up l) (nm_r (nI_1 l) hp)⟩
theorem qp_close {post : St2 → Prop} {tb nd cl mp wd nr lo rr rz : Int32} {a1 a2 a3 a4 a5 a6 a7 a8 a9 a10 a11 a12 a13 a14 a15 a16 a17 a18 a19 a20 a21 a22 a23 a24 a25 a26 a27 a28 a29 a30 : Nat → Int32} {x : Int32} (i n h l : Nat) (d : Int32) (hi : i < 8) (hn : n < 192) (hh : h < 192) (hl8 : l ≤ 8) (ha : a19 i = nI h)
    (hd : (if l = 0 then 0 else a19 (l - 1)) = d)
    (hp : post (tb, nd, nI (n + 1), mp, wd, nr, lo, rr, rz, a1, a2, a3, a4, a5, a6, a7, a8, a9, a10, a11, a12, a13, upd a14 n 15, upd a15 n 0, upd a16 n 0, upd a17 n 0, upd (upd (upd a18 n d) n (nI h)) h (nI (n + 1)), a19, a20, a21, a22, a23, a24, a25, a26, a27, a28, a29, a30))
    (hx : x = nI i := by rfl) (hc : cl = nI n := by rfl) (hl : lo = nI l := by rfl) :
    wpX_closeLoop post (tb, nd, cl, mp, wd, nr, lo, rr, rz, a1, a2, a3, a4, a5, a6, a7, a8, a9, a10, a11, a12, a13, a14, a15, a16, a17, a18, a19, a20, a21, a22, a23, a24, a25, a26, a27, a28, a29, a30) x := by
  unfold wpX_closeLoop
  refine ⟨pk_in i 8 hi hx, nm_r (e' := nI h) (qp_at i ha hx) (qp_put n l d hn hl8 hd ?_ hc hl)⟩
  exact ⟨pk_in n 192 hn (nI_pred n), nm_r (qp_up n (nI_pred n)) ⟨pk_in h 192 hh, nm_r (qp_up h) hp⟩⟩
theorem qp_app2 {post : St2 → Prop} {tb nd cl mp wd nr lo rr rz : Int32} {a1 a2 a3 a4 a5 a6 a7 a8 a9 a10 a11 a12 a13 a14 a15 a16 a17 a18 a19 a20 a21 a22 a23 a24 a25 a26 a27 a28 a29 a30 : Nat → Int32} {x : Int32} (r w : Nat) (m : Int32) (hr : r + 2 ≤ 31)
    (hm : (mp ||| (nI r <<< ((5 * nI w) &&& 31))) ||| (nI (r + 1) <<< ((5 * nI (w + 1)) &&& 31)) = m)
    (hp : post (tb, nd, cl, m, nI (w + 2), nI (r + 2), lo, rr, rz, a1, a2, a3, a4, a5, a6, a7, a8, a9, a10, a11, a12, a13, a14, a15, a16, a17, a18, a19, a20, a21, a22, a23, a24, a25, a26, a27, a28, a29, a30)) (hx : x = nI 2 := by rfl) (hr' : nr = nI r := by rfl) (hw : wd = nI w := by rfl) :
    wpX_appendColumns post (tb, nd, cl, mp, wd, nr, lo, rr, rz, a1, a2, a3, a4, a5, a6, a7, a8, a9, a10, a11, a12, a13, a14, a15, a16, a17, a18, a19, a20, a21, a22, a23, a24, a25, a26, a27, a28, a29, a30) x := by
  subst hx hr' hw hm
  unfold wpX_appendColumns
  refine ⟨3, ?_⟩
  refine pk_le 2 0 (fun z => absurd z (by omega)) (fun _ => pk_le 31 r (fun z => absurd z (by omega)) (fun _ => nm_r (nI_1 r) (nm_e (nm_r (nI_1 w) (nm_r (e' := nI 1) (by decide) ?_)))))
  refine pk_le 2 1 (fun z => absurd z (by omega)) (fun _ => pk_le 31 (r + 1) (fun z => absurd z (by omega)) (fun _ => nm_r (nI_1 (r + 1)) (nm_e (nm_r (nI_1 (w + 1)) (nm_r (e' := nI 2) (by decide) ?_)))))
  exact pk_le 2 2 (fun _ => hp) (fun z => absurd z (by omega))
/-- the sink of a join: rows are kept -/
theorem qp_sinkK {post : St2 → Prop} {tb nd cl mp wd nr lo rr rz : Int32} {a1 a2 a3 a4 a5 a6 a7 a8 a9 a10 a11 a12 a13 a14 a15 a16 a17 a18 a19 a20 a21 a22 a23 a24 a25 a26 a27 a28 a29 a30 : Nat → Int32} {x : Int32} (k n l : Nat) (d : Int32) (hk : k < 12) (h4 : a4 k = 5) (hn : n < 192) (hl8 : l ≤ 8) (hd : (if l = 0 then 0 else a19 (l - 1)) = d)
    (hp : post (tb, nd, nI (n + 1), mp, wd, nr, lo, rr, rz, a1, a2, a3, a4, a5, a6, a7, a8, a9, a10, a11, a12, a13, upd a14 n 11, upd a15 n x, upd a16 n wd, upd a17 n mp, upd a18 n d, a19, a20, a21, a22, a23, a24, a25, a26, a27, a28, a29, a30))
    (hx : x = nI k := by rfl) (hc : cl = nI n := by rfl) (hl : lo = nI l := by rfl) :
    wpX_sinkCode post (tb, nd, cl, mp, wd, nr, lo, rr, rz, a1, a2, a3, a4, a5, a6, a7, a8, a9, a10, a11, a12, a13, a14, a15, a16, a17, a18, a19, a20, a21, a22, a23, a24, a25, a26, a27, a28, a29, a30) x := by
  unfold wpX_sinkCode
  exact pk_le 0 k (fun _ => ⟨pk_in k 12 hk hx, br_t (qp_at k h4 hx) (qp_put n l d hn hl8 hd hp hc hl)⟩) (fun z => absurd z (by omega)) rfl hx
/-- no sink: rows are emitted -/
theorem qp_sinkE {post : St2 → Prop} {tb nd cl mp wd nr lo rr rz : Int32} {a1 a2 a3 a4 a5 a6 a7 a8 a9 a10 a11 a12 a13 a14 a15 a16 a17 a18 a19 a20 a21 a22 a23 a24 a25 a26 a27 a28 a29 a30 : Nat → Int32} {x : Int32} (n l : Nat) (d : Int32) (hn : n < 192) (hl8 : l ≤ 8) (hd : (if l = 0 then 0 else a19 (l - 1)) = d)
    (hp : post (tb, nd, nI (n + 1), mp, wd, nr, lo, rr, rz, a1, a2, a3, a4, a5, a6, a7, a8, a9, a10, a11, a12, a13, upd a14 n 14, upd a15 n 0, upd a16 n wd, upd a17 n mp, upd a18 n d, a19, a20, a21, a22, a23, a24, a25, a26, a27, a28, a29, a30))
    (hx : x = -1 := by rfl) (hc : cl = nI n := by rfl) (hl : lo = nI l := by rfl) :
    wpX_sinkCode post (tb, nd, cl, mp, wd, nr, lo, rr, rz, a1, a2, a3, a4, a5, a6, a7, a8, a9, a10, a11, a12, a13, a14, a15, a16, a17, a18, a19, a20, a21, a22, a23, a24, a25, a26, a27, a28, a29, a30) x := by
  subst hx
  unfold wpX_sinkCode
  exact br_f (by decide) (qp_put n l d hn hl8 hd hp hc hl)
theorem qp_reg {post : Int32 → Prop} {tb nd cl mp wd nr lo rr rz : Int32} {a1 a2 a3 a4 a5 a6 a7 a8 a9 a10 a11 a12 a13 a14 a15 a16 a17 a18 a19 a20 a21 a22 a23 a24 a25 a26 a27 a28 a29 a30 : Nat → Int32} {x : Int32} (w v : Int32) (hv : (mp >>> ((5 * w) &&& 31)) &&& 31 = v) (hp : post v) (hx : x = w := by rfl) :
    wpX_regOf post (tb, nd, cl, mp, wd, nr, lo, rr, rz, a1, a2, a3, a4, a5, a6, a7, a8, a9, a10, a11, a12, a13, a14, a15, a16, a17, a18, a19, a20, a21, a22, a23, a24, a25, a26, a27, a28, a29, a30) x := by
  subst hx hv
  exact hp
/-- the sink of a group: rows are folded -/
theorem qp_sinkF {post : St2 → Prop} {tb nd cl mp wd nr lo rr rz : Int32} {a1 a2 a3 a4 a5 a6 a7 a8 a9 a10 a11 a12 a13 a14 a15 a16 a17 a18 a19 a20 a21 a22 a23 a24 a25 a26 a27 a28 a29 a30 : Nat → Int32} {x : Int32} (k n l : Nat) (d u v ku kv : Int32) (hk : k < 12) (h4 : a4 k = 7) (h8 : a8 k = ku) (h10 : a10 k = kv)
    (hu : (mp >>> ((5 * ku) &&& 31)) &&& 31 = u) (hv : (mp >>> ((5 * kv) &&& 31)) &&& 31 = v) (hn : n < 192) (hl8 : l ≤ 8) (hd : (if l = 0 then 0 else a19 (l - 1)) = d)
    (hp : post (tb, nd, nI (n + 1), mp, wd, nr, lo, rr, rz, a1, a2, a3, a4, a5, a6, a7, a8, a9, a10, a11, a12, a13, upd a14 n 12, upd a15 n x, upd a16 n u, upd a17 n v, upd a18 n d, a19, a20, a21, a22, a23, a24, a25, a26, a27, a28, a29, a30))
    (hx : x = nI k := by rfl) (hc : cl = nI n := by rfl) (hl : lo = nI l := by rfl) :
    wpX_sinkCode post (tb, nd, cl, mp, wd, nr, lo, rr, rz, a1, a2, a3, a4, a5, a6, a7, a8, a9, a10, a11, a12, a13, a14, a15, a16, a17, a18, a19, a20, a21, a22, a23, a24, a25, a26, a27, a28, a29, a30) x := by
  unfold wpX_sinkCode
  exact pk_le 0 k (fun _ => ⟨pk_in k 12 hk hx, br_f (qp_ne k h4 (by decide) hx) ⟨pk_in k 12 hk hx, br_f (qp_ne k h4 (by decide) hx) ⟨pk_in k 12 hk hx, qp_reg ku u hu ⟨pk_in k 12 hk hx, qp_reg kv v hv (qp_put n l d hn hl8 hd hp hc hl) (qp_at k h10 hx)⟩ (qp_at k h8 hx)⟩⟩⟩) (fun z => absurd z (by omega)) rfl hx
/-- source, no operator, the sink of a join -/
theorem qp_pipeK {post : St2 → Prop} {tb nd cl mp wd nr lo rr rz : Int32} {a1 a2 a3 a4 a5 a6 a7 a8 a9 a10 a11 a12 a13 a14 a15 a16 a17 a18 a19 a20 a21 a22 a23 a24 a25 a26 a27 a28 a29 a30 : Nat → Int32} {x y : Int32} (n s k : Nat) (hs : s < 12) (hk : k < 12) (hn : n + 4 ≤ 192) (h11 : a11 s = 2) (h4 : a4 k = 5)
    (hp : post (tb, nd, nI (n + 4), 32, 2, 2, 0, rr, rz, a1, a2, a3, a4, a5, a6, a7, a8, a9, a10, a11, a12, a13, upd (upd (upd (upd a14 n 1) (n + 1) 2) (n + 2) 11) (n + 3) 15, upd (upd (upd (upd a15 n 0) (n + 1) 0) (n + 2) y) (n + 3) 0, upd (upd (upd (upd a16 n 0) (n + 1) x) (n + 2) 2) (n + 3) 0, upd (upd (upd (upd a17 n 0) (n + 1) 32) (n + 2) 32) (n + 3) 0, upd (upd (upd (upd (upd (upd a18 n 0) (n + 1) (nI (n + 1))) (n + 2) (nI (n + 1))) (n + 3) (nI (n + 1))) (n + 3) (nI (n + 1))) (n + 1) (nI (n + 4)), upd a19 0 (nI (n + 1)), a20, a21, a22, a23, a24, a25, a26, a27, a28, a29, a30))
    (hx : x = nI s := by rfl) (hy : y = nI k := by rfl) (hc : cl = nI n := by rfl) :
    wpX_pipeline post (tb, nd, cl, mp, wd, nr, lo, rr, rz, a1, a2, a3, a4, a5, a6, a7, a8, a9, a10, a11, a12, a13, a14, a15, a16, a17, a18, a19, a20, a21, a22, a23, a24, a25, a26, a27, a28, a29, a30) x x y := by
  unfold wpX_pipeline
  refine qp_put n 0 0 (by omega) (by omega) rfl ?_ hc
  refine ⟨pk_in s 12 hs hx, qp_app2 0 0 32 (by decide) (by decide) ?_ (qp_at s h11 hx)⟩
  refine qp_open 0 (by decide) ?_
  refine qp_put (n + 1) 1 (nI (n + 1)) (by omega) (by omega) rfl ?_
  refine ⟨1, ?_⟩
  refine pk_le 12 0 (fun z => absurd z (by omega)) (fun _ => br_t rfl ?_)
  unfold wX_pipeline_93
  refine qp_sinkK k (n + 2) 1 (nI (n + 1)) hk h4 (by omega) (by omega) rfl ?_ hy
  refine nm_r (e' := nI 0) (by decide) ⟨2, ?_⟩
  refine br_f (by decide) ?_
  refine qp_close 0 (n + 3) (n + 1) 1 (nI (n + 1)) (by decide) (by omega) (by omega) (by omega) rfl rfl ?_
  refine nm_r (e' := -1) (by decide) ?_
  exact br_t (by decide) hp
/-- source, no operator, no sink -/
theorem qp_pipeE {post : St2 → Prop} {tb nd cl mp wd nr lo rr rz : Int32} {a1 a2 a3 a4 a5 a6 a7 a8 a9 a10 a11 a12 a13 a14 a15 a16 a17 a18 a19 a20 a21 a22 a23 a24 a25 a26 a27 a28 a29 a30 : Nat → Int32} {x y : Int32} (n s : Nat) (hs : s < 12) (hn : n + 4 ≤ 192) (h11 : a11 s = 2)
    (hp : post (tb, nd, nI (n + 4), 32, 2, 2, 0, rr, rz, a1, a2, a3, a4, a5, a6, a7, a8, a9, a10, a11, a12, a13, upd (upd (upd (upd a14 n 1) (n + 1) 2) (n + 2) 14) (n + 3) 15, upd (upd (upd (upd a15 n 0) (n + 1) 0) (n + 2) 0) (n + 3) 0, upd (upd (upd (upd a16 n 0) (n + 1) x) (n + 2) 2) (n + 3) 0, upd (upd (upd (upd a17 n 0) (n + 1) 32) (n + 2) 32) (n + 3) 0, upd (upd (upd (upd (upd (upd a18 n 0) (n + 1) (nI (n + 1))) (n + 2) (nI (n + 1))) (n + 3) (nI (n + 1))) (n + 3) (nI (n + 1))) (n + 1) (nI (n + 4)), upd a19 0 (nI (n + 1)), a20, a21, a22, a23, a24, a25, a26, a27, a28, a29, a30))
    (hx : x = nI s := by rfl) (hy : y = -1 := by rfl) (hc : cl = nI n := by rfl) :
    wpX_pipeline post (tb, nd, cl, mp, wd, nr, lo, rr, rz, a1, a2, a3, a4, a5, a6, a7, a8, a9, a10, a11, a12, a13, a14, a15, a16, a17, a18, a19, a20, a21, a22, a23, a24, a25, a26, a27, a28, a29, a30) x x y := by
  unfold wpX_pipeline
  refine qp_put n 0 0 (by omega) (by omega) rfl ?_ hc
  refine ⟨pk_in s 12 hs hx, qp_app2 0 0 32 (by decide) (by decide) ?_ (qp_at s h11 hx)⟩
  refine qp_open 0 (by decide) ?_
  refine qp_put (n + 1) 1 (nI (n + 1)) (by omega) (by omega) rfl ?_
  refine ⟨1, ?_⟩
  refine pk_le 12 0 (fun z => absurd z (by omega)) (fun _ => br_t rfl ?_)
  unfold wX_pipeline_93
  refine qp_sinkE (n + 2) 1 (nI (n + 1)) (by omega) (by omega) rfl ?_ hy
  refine nm_r (e' := nI 0) (by decide) ⟨2, ?_⟩
  refine br_f (by decide) ?_
  refine qp_close 0 (n + 3) (n + 1) 1 (nI (n + 1)) (by decide) (by omega) (by omega) (by omega) rfl rfl ?_
  refine nm_r (e' := -1) (by decide) ?_
  exact br_t (by decide) hp
end
section
theorem qp_putc {post : St2 → Prop} {tb nd cl mp wd nr lo rr rz : Int32} {a1 a2 a3 a4 a5 a6 a7 a8 a9 a10 a11 a12 a13 a14 a15 a16 a17 a18 a19 a20 a21 a22 a23 a24 a25 a26 a27 a28 a29 a30 : Nat → Int32} {op a b c : Int32} (n l : Nat) (d c' : Int32) (hn : n < 192) (hl8 : l ≤ 8)
    (hd : (if l = 0 then 0 else a19 (l - 1)) = d) (hcc : c = c')
    (hp : post (tb, nd, nI (n + 1), mp, wd, nr, lo, rr, rz, a1, a2, a3, a4, a5, a6, a7, a8, a9, a10, a11, a12, a13, upd a14 n op, upd a15 n a, upd a16 n b, upd a17 n c', upd a18 n d, a19, a20, a21, a22, a23, a24, a25, a26, a27, a28, a29, a30))
    (hc : cl = nI n := by rfl) (hl : lo = nI l := by rfl) :
    wpX_put post (tb, nd, cl, mp, wd, nr, lo, rr, rz, a1, a2, a3, a4, a5, a6, a7, a8, a9, a10, a11, a12, a13, a14, a15, a16, a17, a18, a19, a20, a21, a22, a23, a24, a25, a26, a27, a28, a29, a30) op a b c := by
  subst hcc
  exact qp_put n l d hn hl8 hd hp hc hl
theorem qp_src {post : Int32 → Prop} {tb nd cl mp wd nr lo rr rz : Int32} {a1 a2 a3 a4 a5 a6 a7 a8 a9 a10 a11 a12 a13 a14 a15 a16 a17 a18 a19 a20 a21 a22 a23 a24 a25 a26 a27 a28 a29 a30 : Nat → Int32} {x : Int32} (k : Nat) (hk : k < 12) (h : a4 k = 0 ∨ a4 k = 7) (hp : post 1) (hx : x = nI k := by rfl) :
    wpX_isSource post (tb, nd, cl, mp, wd, nr, lo, rr, rz, a1, a2, a3, a4, a5, a6, a7, a8, a9, a10, a11, a12, a13, a14, a15, a16, a17, a18, a19, a20, a21, a22, a23, a24, a25, a26, a27, a28, a29, a30) x := by
  unfold wpX_isSource
  rcases h with h | h
  · exact ⟨pk_in k 12 hk hx, br_t (qp_at k h hx) hp⟩
  · exact ⟨pk_in k 12 hk hx, br_f (qp_ne k h (by decide) hx) ⟨pk_in k 12 hk hx, br_t (qp_at k h hx) hp⟩⟩
theorem qp_nsrc {post : Int32 → Prop} {tb nd cl mp wd nr lo rr rz : Int32} {a1 a2 a3 a4 a5 a6 a7 a8 a9 a10 a11 a12 a13 a14 a15 a16 a17 a18 a19 a20 a21 a22 a23 a24 a25 a26 a27 a28 a29 a30 : Nat → Int32} {x : Int32} (k : Nat) (hk : k < 12) (h : a4 k = 5) (hp : post 0) (hx : x = nI k := by rfl) :
    wpX_isSource post (tb, nd, cl, mp, wd, nr, lo, rr, rz, a1, a2, a3, a4, a5, a6, a7, a8, a9, a10, a11, a12, a13, a14, a15, a16, a17, a18, a19, a20, a21, a22, a23, a24, a25, a26, a27, a28, a29, a30) x := by
  unfold wpX_isSource
  exact ⟨pk_in k 12 hk hx, br_f (qp_ne k h (by decide) hx) ⟨pk_in k 12 hk hx, br_f (qp_ne k h (by decide) hx) ⟨pk_in k 12 hk hx, br_f (qp_ne k h (by decide) hx) hp⟩⟩⟩
/-- the join's operator: PROBE, two columns more, MATCH -/
theorem qp_join {post : St2 → Prop} {tb nd cl mp wd nr lo rr rz : Int32} {a1 a2 a3 a4 a5 a6 a7 a8 a9 a10 a11 a12 a13 a14 a15 a16 a17 a18 a19 a20 a21 a22 a23 a24 a25 a26 a27 a28 a29 a30 : Nat → Int32} (h4 : a4 2 = 5) (h6 : a6 2 = 1) (h8 : a8 2 = 0) (h9 : a9 2 = 0) (h11 : a11 1 = 2) (h19 : a19 0 = 5)
    (hp : post (tb, nd, nI 8, 100384, 4, 4, 2, rr, rz, a1, a2, a3, a4, a5, a6, a7, a8, a9, a10, a11, a12, a13, upd (upd a14 6 6) 7 7, upd (upd a15 6 1) 7 1, upd (upd a16 6 2) 7 2, upd (upd a17 6 0) 7 98, upd (upd a18 6 5) 7 7, upd a19 1 7, a20, a21, a22, a23, a24, a25, a26, a27, a28, a29, a30))
    (hc : cl = nI 6) (hm : mp = 32) (hw : wd = nI 2) (hr : nr = nI 2) (hl : lo = nI 1) :
    wpX_operator post (tb, nd, cl, mp, wd, nr, lo, rr, rz, a1, a2, a3, a4, a5, a6, a7, a8, a9, a10, a11, a12, a13, a14, a15, a16, a17, a18, a19, a20, a21, a22, a23, a24, a25, a26, a27, a28, a29, a30) (nI 2) := by
  subst hc hm hw hr hl
  unfold wpX_operator
  refine ⟨pk_in 2 12 (by decide), nm_r (e' := 5) (qp_at 2 h4) (br_f (by decide) (br_f (by decide) (br_f (by decide) (br_f (by decide) (br_f (by decide) (br_f (by decide) (br_t rfl ?_)))))))⟩
  unfold wpX_joinCode
  refine ⟨pk_in 2 12 (by decide), qp_reg 0 0 (by decide) ?_ (qp_at 2 h9)⟩
  refine ⟨pk_in 2 12 (by decide), br_f (qp_ne 2 h8 (by decide)) ⟨pk_in 2 12 (by decide), br_f (qp_ne 2 h8 (by decide)) ?_⟩⟩
  refine qp_put 6 1 5 (by decide) (by decide) h19 ?_
  refine ⟨pk_in 2 12 (by decide), qp_inT 2 1 12 h6 (by decide), qp_app2 2 2 100384 (by decide) (by decide) ?_ (qp_at 1 h11 (qp_at 2 h6))⟩
  refine qp_open 1 (by decide) ?_
  refine qp_putc 7 2 7 98 (by decide) (by decide) rfl (by decide) ?_
  exact hp
theorem qp_pipeJ {post : St2 → Prop} {tb nd cl mp wd nr lo rr rz : Int32} {a1 a2 a3 a4 a5 a6 a7 a8 a9 a10 a11 a12 a13 a14 a15 a16 a17 a18 a19 a20 a21 a22 a23 a24 a25 a26 a27 a28 a29 a30 : Nat → Int32} (h42 : a4 2 = 5) (h43 : a4 3 = 7) (h62 : a6 2 = 1) (h70 : a7 0 = 2) (h82 : a8 2 = 0) (h83 : a8 3 = 0) (h92 : a9 2 = 0) (h103 : a10 3 = 3) (h110 : a11 0 = 2) (h111 : a11 1 = 2)
    (hp : post (tb, nd, nI 11, 100384, 4, 4, 0, rr, rz, a1, a2, a3, a4, a5, a6, a7, a8, a9, a10, a11, a12, a13, upd (upd (upd (upd (upd (upd (upd a14 4 1) 5 2) 6 6) 7 7) 8 12) 9 15) 10 15, upd (upd (upd (upd (upd (upd (upd a15 4 0) 5 0) 6 1) 7 1) 8 3) 9 0) 10 0, upd (upd (upd (upd (upd (upd (upd a16 4 0) 5 0) 6 2) 7 2) 8 0) 9 0) 10 0, upd (upd (upd (upd (upd (upd (upd a17 4 0) 5 32) 6 0) 7 98) 8 3) 9 0) 10 0, upd (upd (upd (upd (upd (upd (upd (upd (upd (upd (upd a18 4 0) 5 5) 6 5) 7 7) 8 7) 9 7) 9 7) 7 10) 10 7) 10 5) 5 11, upd (upd a19 0 5) 1 7, a20, a21, a22, a23, a24, a25, a26, a27, a28, a29, a30))
    (hc : cl = nI 4) : wpX_pipeline post (tb, nd, cl, mp, wd, nr, lo, rr, rz, a1, a2, a3, a4, a5, a6, a7, a8, a9, a10, a11, a12, a13, a14, a15, a16, a17, a18, a19, a20, a21, a22, a23, a24, a25, a26, a27, a28, a29, a30) 0 2 3 := by
  subst hc
  unfold wpX_pipeline
  refine qp_put 4 0 0 (by decide) (by decide) rfl ?_
  refine ⟨pk_in 0 12 (by decide), qp_app2 0 0 32 (by decide) (by decide) ?_ (qp_at 0 h110)⟩
  refine qp_open 0 (by decide) ?_
  refine qp_put 5 1 5 (by decide) (by decide) rfl ?_
  refine ⟨2, ?_⟩
  refine pk_le 12 0 (fun z => absurd z (by omega)) (fun _ => br_f (by decide) ⟨pk_in 0 12 (by decide), nm_r (e' := nI 2) (qp_at 0 h70) ?_⟩)
  refine qp_join h42 h62 h82 h92 h111 rfl ?_ rfl rfl rfl rfl rfl
  refine nm_r (e' := nI 1) (by decide) ?_
  refine pk_le 12 1 (fun z => absurd z (by omega)) (fun _ => br_t rfl ?_)
  unfold wX_pipeline_93
  refine qp_sinkF 3 8 2 7 0 3 0 3 (by decide) h43 h83 h103 (by decide) (by decide) (by decide) (by decide) rfl ?_
  refine nm_r (e' := nI 1) (by decide) ⟨3, ?_⟩
  refine br_f (by decide) ?_
  refine qp_close 1 9 7 2 7 (by decide) (by decide) (by decide) (by decide) rfl rfl ?_
  refine nm_r (e' := nI 0) (by decide) ?_
  refine br_f (by decide) ?_
  refine qp_close 0 10 5 2 7 (by decide) (by decide) (by decide) (by decide) rfl rfl ?_
  refine nm_r (e' := -1) (by decide) ?_
  exact br_t (by decide) hp
/-- compileInto where the top is a source -/
theorem qp_into {post : St2 → Prop} {tb nd cl mp wd nr lo rr rz : Int32} {a1 a2 a3 a4 a5 a6 a7 a8 a9 a10 a11 a12 a13 a14 a15 a16 a17 a18 a19 a20 a21 a22 a23 a24 a25 a26 a27 a28 a29 a30 : Nat → Int32} {x0 y : Int32} (x : Int32) (k : Nat) (hk : k < 12) (h4 : a4 k = 0 ∨ a4 k = 7)
    (H : ∀ Q : St2 → Prop, (∀ u, post u → Q u) → wpX_pipeline Q (tb, nd, cl, mp, wd, nr, lo, rr, rz, a1, a2, a3, a4, a5, a6, a7, a8, a9, a10, a11, a12, a13, a14, a15, a16, a17, a18, a19, upd a20 0 x, a21, a22, a23, a24, a25, a26, a27, a28, a29, a30) x x y) (h0 : x0 = x := by rfl) (hx : x = nI k := by rfl) :
    wpX_compileInto post (tb, nd, cl, mp, wd, nr, lo, rr, rz, a1, a2, a3, a4, a5, a6, a7, a8, a9, a10, a11, a12, a13, a14, a15, a16, a17, a18, a19, a20, a21, a22, a23, a24, a25, a26, a27, a28, a29, a30) y x0 := by
  subst h0
  unfold wpX_compileInto
  refine nm_e ⟨2, ?_⟩
  refine pk_le 24 0 (fun z => absurd z (by omega)) (fun _ => pk_le 1 0 (fun z => absurd z (by omega)) (fun _ => nm_r (e' := nI 0) (by decide) ⟨pk_in 0 16 (by decide), nm_r (e' := x0) (qp_at 0 rfl) ?_⟩))
  refine qp_src k hk h4 (br_f (by decide) (H _ ?_)) hx
  intro u hu
  obtain ⟨tb, nd, cl, mp, wd, nr, lo, rr, rz, a1, a2, a3, a4, a5, a6, a7, a8, a9, a10, a11, a12, a13, a14, a15, a16, a17, a18, a19, a20, a21, a22, a23, a24, a25, a26, a27, a28, a29, a30⟩ := u
  refine nm_r (e' := nI 1) (by decide) ?_
  exact pk_le 24 1 (fun z => absurd z (by omega)) (fun _ => pk_le 0 0 (fun _ => hu) (fun z => absurd z (by omega)))
/-- compileInto(3, 2): the top is the join, its source is node 0 -/
theorem qp_intoJ {post : St2 → Prop} {tb nd cl mp wd nr lo rr rz : Int32} {a1 a2 a3 a4 a5 a6 a7 a8 a9 a10 a11 a12 a13 a14 a15 a16 a17 a18 a19 a20 a21 a22 a23 a24 a25 a26 a27 a28 a29 a30 : Nat → Int32} {x y : Int32} (h42 : a4 2 = 5) (h40 : a4 0 = 0) (h52 : a5 2 = 0)
    (H : ∀ Q : St2 → Prop, (∀ u, post u → Q u) → wpX_pipeline Q (tb, nd, cl, mp, wd, nr, lo, rr, rz, a1, a2, a3, a4, a5, a6, a7, a8, a9, a10, a11, a12, a13, a14, a15, a16, a17, a18, a19, upd (upd a20 0 2) 0 0, a21, a22, a23, a24, a25, a26, a27, a28, a29, a30) 0 2 3) (hx : x = 2) (hy : y = 3) :
    wpX_compileInto post (tb, nd, cl, mp, wd, nr, lo, rr, rz, a1, a2, a3, a4, a5, a6, a7, a8, a9, a10, a11, a12, a13, a14, a15, a16, a17, a18, a19, a20, a21, a22, a23, a24, a25, a26, a27, a28, a29, a30) y x := by
  subst hx hy
  unfold wpX_compileInto
  refine nm_e ⟨3, ?_⟩
  refine pk_le 24 0 (fun z => absurd z (by omega)) (fun _ => pk_le 1 0 (fun z => absurd z (by omega)) (fun _ => nm_r (e' := nI 0) (by decide) ⟨pk_in 0 16 (by decide), nm_r (e' := nI 2) (qp_at 0 rfl) ?_⟩))
  refine qp_nsrc 2 (by decide) h42 (br_t rfl ⟨pk_in 2 12 (by decide), br_f (qp_ne 2 h42 (by decide)) ?_⟩)
  refine And.intro (pk_in 2 12 (by decide)) ⟨pk_in 0 16 (by decide), nm_r (qp_uv 0 (qp_at 2 h52)) (nm_r (e' := nI 1) (by decide) (nm_r (e' := nI 1) (by decide) ?_))⟩
  refine pk_le 24 1 (fun z => absurd z (by omega)) (fun _ => pk_le 1 0 (fun z => absurd z (by omega)) (fun _ => nm_r (e' := nI 0) (by decide) ⟨pk_in 0 16 (by decide), nm_r (e' := nI 0) (qp_at 0 rfl) ?_⟩))
  refine qp_src 0 (by decide) (Or.inl h40) (br_f (by decide) (H _ ?_))
  intro u hu
  obtain ⟨tb, nd, cl, mp, wd, nr, lo, rr, rz, a1, a2, a3, a4, a5, a6, a7, a8, a9, a10, a11, a12, a13, a14, a15, a16, a17, a18, a19, a20, a21, a22, a23, a24, a25, a26, a27, a28, a29, a30⟩ := u
  refine nm_r (e' := nI 2) (by decide) ?_
  exact pk_le 24 2 (fun z => absurd z (by omega)) (fun _ => pk_le 0 0 (fun _ => hu) (fun z => absurd z (by omega)))
end
section
def qp_op (j : Nat) : Int32 := match j with
  | 0 => 1
  | 1 => 2
  | 2 => 11
  | 3 => 15
  | 4 => 1
  | 5 => 2
  | 6 => 6
  | 7 => 7
  | 8 => 12
  | 9 => 15
  | 10 => 15
  | 11 => 1
  | 12 => 2
  | 13 => 14
  | 14 => 15
  | 15 => 0
  | _ => 0
def qp_ca (j : Nat) : Int32 := match j with
  | 0 => 0
  | 1 => 0
  | 2 => 2
  | 3 => 0
  | 4 => 0
  | 5 => 0
  | 6 => 1
  | 7 => 1
  | 8 => 3
  | 9 => 0
  | 10 => 0
  | 11 => 0
  | 12 => 0
  | 13 => 0
  | 14 => 0
  | 15 => 0
  | _ => 0
def qp_cb (j : Nat) : Int32 := match j with
  | 0 => 0
  | 1 => 1
  | 2 => 2
  | 3 => 0
  | 4 => 0
  | 5 => 0
  | 6 => 2
  | 7 => 2
  | 8 => 0
  | 9 => 0
  | 10 => 0
  | 11 => 0
  | 12 => 3
  | 13 => 2
  | 14 => 0
  | 15 => 0
  | _ => 0
def qp_cc (j : Nat) : Int32 := match j with
  | 0 => 0
  | 1 => 32
  | 2 => 32
  | 3 => 0
  | 4 => 0
  | 5 => 32
  | 6 => 0
  | 7 => 98
  | 8 => 3
  | 9 => 0
  | 10 => 0
  | 11 => 0
  | 12 => 32
  | 13 => 32
  | 14 => 0
  | 15 => 0
  | _ => 0
def qp_cd (j : Nat) : Int32 := match j with
  | 0 => 0
  | 1 => 4
  | 2 => 1
  | 3 => 1
  | 4 => 0
  | 5 => 11
  | 6 => 5
  | 7 => 10
  | 8 => 7
  | 9 => 7
  | 10 => 5
  | 11 => 0
  | 12 => 15
  | 13 => 12
  | 14 => 12
  | 15 => 0
  | _ => 0
def qp_Code (a14 a15 a16 a17 a18 : Nat → Int32) : Prop := (∀ j, j < 16 → a14 j = qp_op j) ∧ (∀ j, j < 16 → a15 j = qp_ca j) ∧ (∀ j, j < 16 → a16 j = qp_cb j) ∧ (∀ j, j < 16 → a17 j = qp_cc j) ∧ (∀ j, j < 16 → a18 j = qp_cd j)
theorem qp_code {a14 a15 a16 a17 a18 : Nat → Int32} : qp_Code (upd (upd (upd (upd (upd (upd (upd (upd (upd (upd (upd (upd (upd (upd (upd (upd a14 0 1) 1 2) 2 11) 3 15) 4 1) 5 2) 6 6) 7 7) 8 12) 9 15) 10 15) 11 1) 12 2) 13 14) 14 15) 15 0) (upd (upd (upd (upd (upd (upd (upd (upd (upd (upd (upd (upd (upd (upd (upd (upd a15 0 0) 1 0) 2 2) 3 0) 4 0) 5 0) 6 1) 7 1) 8 3) 9 0) 10 0) 11 0) 12 0) 13 0) 14 0) 15 0) (upd (upd (upd (upd (upd (upd (upd (upd (upd (upd (upd (upd (upd (upd (upd (upd a16 0 0) 1 1) 2 2) 3 0) 4 0) 5 0) 6 2) 7 2) 8 0) 9 0) 10 0) 11 0) 12 3) 13 2) 14 0) 15 0) (upd (upd (upd (upd (upd (upd (upd (upd (upd (upd (upd (upd (upd (upd (upd (upd a17 0 0) 1 32) 2 32) 3 0) 4 0) 5 32) 6 0) 7 98) 8 3) 9 0) 10 0) 11 0) 12 32) 13 32) 14 0) 15 0) (upd (upd (upd (upd (upd (upd (upd (upd (upd (upd (upd (upd (upd (upd (upd (upd (upd (upd (upd (upd (upd (upd (upd (upd a18 0 0) 1 1) 2 1) 3 1) 3 1) 1 4) 4 0) 5 5) 6 5) 7 7) 8 7) 9 7) 9 7) 7 10) 10 7) 10 5) 5 11) 11 0) 12 12) 13 12) 14 12) 14 12) 12 15) 15 0) :=
  ⟨lt_s (lt_s (lt_s (lt_s (lt_s (lt_s (lt_s (lt_s (lt_s (lt_s (lt_s (lt_s (lt_s (lt_s (lt_s (lt_s (lt_0) rfl) rfl) rfl) rfl) rfl) rfl) rfl) rfl) rfl) rfl) rfl) rfl) rfl) rfl) rfl) rfl,
    lt_s (lt_s (lt_s (lt_s (lt_s (lt_s (lt_s (lt_s (lt_s (lt_s (lt_s (lt_s (lt_s (lt_s (lt_s (lt_s (lt_0) rfl) rfl) rfl) rfl) rfl) rfl) rfl) rfl) rfl) rfl) rfl) rfl) rfl) rfl) rfl) rfl,
    lt_s (lt_s (lt_s (lt_s (lt_s (lt_s (lt_s (lt_s (lt_s (lt_s (lt_s (lt_s (lt_s (lt_s (lt_s (lt_s (lt_0) rfl) rfl) rfl) rfl) rfl) rfl) rfl) rfl) rfl) rfl) rfl) rfl) rfl) rfl) rfl) rfl,
    lt_s (lt_s (lt_s (lt_s (lt_s (lt_s (lt_s (lt_s (lt_s (lt_s (lt_s (lt_s (lt_s (lt_s (lt_s (lt_s (lt_0) rfl) rfl) rfl) rfl) rfl) rfl) rfl) rfl) rfl) rfl) rfl) rfl) rfl) rfl) rfl) rfl,
    lt_s (lt_s (lt_s (lt_s (lt_s (lt_s (lt_s (lt_s (lt_s (lt_s (lt_s (lt_s (lt_s (lt_s (lt_s (lt_s (lt_0) rfl) rfl) rfl) rfl) rfl) rfl) rfl) rfl) rfl) rfl) rfl) rfl) rfl) rfl) rfl) rfl⟩
theorem qp_compile {post : St2 → Prop} {tb nd cl mp wd nr lo rr rz : Int32} {a1 a2 a3 a4 a5 a6 a7 a8 a9 a10 a11 a12 a13 a14 a15 a16 a17 a18 a19 a20 a21 a22 a23 a24 a25 a26 a27 a28 a29 a30 : Nat → Int32} (h40 : a4 0 = 0) (h41 : a4 1 = 0) (h42 : a4 2 = 5) (h43 : a4 3 = 7) (h50 : a5 0 = -1) (h51 : a5 1 = -1) (h52 : a5 2 = 0) (h53 : a5 3 = 2) (h60 : a6 0 = -1) (h61 : a6 1 = -1) (h62 : a6 2 = 1) (h63 : a6 3 = -1) (h70 : a7 0 = 2) (h82 : a8 2 = 0) (h83 : a8 3 = 0) (h92 : a9 2 = 0) (h103 : a10 3 = 3) (h110 : a11 0 = 2) (h111 : a11 1 = 2) (h113 : a11 3 = 2)
    (hp : ∀ (cl mp wd nr lo : Int32) (a13 a14 a15 a16 a17 a18 a19 a20 : Nat → Int32), qp_Code a14 a15 a16 a17 a18 → post (tb, nd, cl, mp, wd, nr, lo, rr, rz, a1, a2, a3, a4, a5, a6, a7, a8, a9, a10, a11, a12, a13, a14, a15, a16, a17, a18, a19, a20, a21, a22, a23, a24, a25, a26, a27, a28, a29, a30)) (hnd : nd = nI 4) :
    wpX_compile post (tb, nd, cl, mp, wd, nr, lo, rr, rz, a1, a2, a3, a4, a5, a6, a7, a8, a9, a10, a11, a12, a13, a14, a15, a16, a17, a18, a19, a20, a21, a22, a23, a24, a25, a26, a27, a28, a29, a30) 3 := by
  subst hnd
  unfold wpX_compile
  refine ⟨5, ?_⟩
  refine pk_le 4 0 (fun z => absurd z (by omega)) (fun _ => br_f (by decide) ⟨pk_in 0 12 (by decide), nm_r (qp_up 0) (nm_r (e' := nI 1) rfl ?_)⟩)
  refine pk_le 4 1 (fun z => absurd z (by omega)) (fun _ => br_f (by decide) ⟨pk_in 1 12 (by decide), nm_r (qp_up 1) (nm_r (e' := nI 2) rfl ?_)⟩)
  refine pk_le 4 2 (fun z => absurd z (by omega)) (fun _ => br_f (by decide) ⟨pk_in 2 12 (by decide), nm_r (qp_up 2) (nm_r (e' := nI 3) rfl ?_)⟩)
  refine pk_le 4 3 (fun z => absurd z (by omega)) (fun _ => br_t rfl ⟨pk_in 3 12 (by decide), nm_r (qp_up 3) (nm_r (e' := nI 4) (by decide) ?_)⟩)
  refine pk_le 4 4 (fun _ => ⟨5, ?_⟩) (fun z => absurd z (by omega))
  refine br_f (by decide) ⟨pk_in 3 12 (by decide), br_f (qp_ne 3 (v := 1) rfl (by decide)) ⟨pk_in 3 12 (by decide), br_f (qp_nlt 3 h53 (by decide)) ⟨pk_in 3 12 (by decide), qp_inT 3 2 12 h53 (by decide), nm_r (qp_up 2 (qp_at 3 h53)) ?_⟩⟩⟩
  refine And.intro (pk_in 3 12 (by decide)) (br_f (qp_ne 3 (v := 1) rfl (by decide)) ⟨pk_in 3 12 (by decide), br_t (qp_lt 3 h63 (by decide)) (nm_r (e' := nI 2) (by decide) ?_)⟩)
  refine br_f (by decide) ⟨pk_in 2 12 (by decide), br_f (qp_ne 2 (v := 1) rfl (by decide)) ⟨pk_in 2 12 (by decide), br_f (qp_nlt 2 h52 (by decide)) ⟨pk_in 2 12 (by decide), qp_inT 2 0 12 h52 (by decide), nm_r (qp_up 0 (qp_at 2 h52)) ?_⟩⟩⟩
  refine And.intro (pk_in 2 12 (by decide)) (br_f (qp_ne 2 (v := 1) rfl (by decide)) ⟨pk_in 2 12 (by decide), br_f (qp_nlt 2 h62 (by decide)) ⟨pk_in 2 12 (by decide), qp_inT 2 1 12 h62 (by decide), nm_r (qp_up 1 (qp_at 2 h62)) (nm_r (e' := nI 1) (by decide) ?_)⟩⟩)
  refine br_f (by decide) ⟨pk_in 1 12 (by decide), br_f (qp_ne 1 (v := 1) rfl (by decide)) ⟨pk_in 1 12 (by decide), br_t (qp_lt 1 h51 (by decide)) ?_⟩⟩
  refine And.intro (pk_in 1 12 (by decide)) (br_f (qp_ne 1 (v := 1) rfl (by decide)) ⟨pk_in 1 12 (by decide), br_t (qp_lt 1 h61 (by decide)) (nm_r (e' := nI 0) (by decide) ?_)⟩)
  refine br_f (by decide) ⟨pk_in 0 12 (by decide), br_f (qp_ne 0 (v := 1) rfl (by decide)) ⟨pk_in 0 12 (by decide), br_t (qp_lt 0 h50 (by decide)) ?_⟩⟩
  refine And.intro (pk_in 0 12 (by decide)) (br_f (qp_ne 0 (v := 1) rfl (by decide)) ⟨pk_in 0 12 (by decide), br_t (qp_lt 0 h60 (by decide)) (nm_r (e' := -1) (by decide) ?_)⟩)
  refine br_t (by decide) ⟨5, ?_⟩
  refine br_f (by decide) ⟨pk_in 0 12 (by decide), br_f (qp_ne 0 (v := 1) rfl (by decide)) ⟨pk_in 0 12 (by decide), br_f (qp_ne 0 h40 (by decide)) ?_⟩⟩
  refine And.intro (pk_in 0 12 (by decide)) (br_f (qp_ne 0 h40 (by decide)) ⟨pk_in 0 12 (by decide), br_f (qp_ne 0 h40 (by decide)) (nm_r (e' := nI 1) rfl ?_)⟩)
  refine br_f (by decide) ⟨pk_in 1 12 (by decide), br_f (qp_ne 1 (v := 1) rfl (by decide)) ⟨pk_in 1 12 (by decide), br_f (qp_ne 1 h41 (by decide)) ?_⟩⟩
  refine And.intro (pk_in 1 12 (by decide)) (br_f (qp_ne 1 h41 (by decide)) ⟨pk_in 1 12 (by decide), br_f (qp_ne 1 h41 (by decide)) (nm_r (e' := nI 2) rfl ?_)⟩)
  refine br_f (by decide) ⟨pk_in 2 12 (by decide), br_f (qp_ne 2 (v := 1) rfl (by decide)) ⟨pk_in 2 12 (by decide), br_t (qp_at 2 h42) ⟨pk_in 2 12 (by decide), ?_⟩⟩⟩
  refine qp_into (nI 1) 1 (by decide) (Or.inl h41) (fun Q hQ => ?_) (qp_at 2 h62)
  refine qp_pipeK 0 1 2 (by decide) (by decide) (by decide) h111 h42 (hQ _ ?_)
  refine And.intro (pk_in 2 12 (by decide)) (br_f (qp_ne 2 h42 (by decide)) ⟨pk_in 2 12 (by decide), br_f (qp_ne 2 h42 (by decide)) (nm_r (e' := nI 3) (by decide) ?_)⟩)
  refine br_f (by decide) ⟨pk_in 3 12 (by decide), br_f (qp_ne 3 (v := 1) rfl (by decide)) ⟨pk_in 3 12 (by decide), br_f (qp_ne 3 h43 (by decide)) ?_⟩⟩
  refine And.intro (pk_in 3 12 (by decide)) (br_t (qp_at 3 h43) ?_)
  refine And.intro (pk_in 3 12 (by decide)) ?_
  refine qp_intoJ h42 h40 h52 (fun Q hQ => ?_) (qp_at 3 h53) rfl
  refine qp_pipeJ h42 h43 h62 h70 h82 h83 h92 h103 h110 h111 (hQ _ ?_) rfl
  refine nm_r (e' := nI 4) (by decide) ?_
  refine br_t (by decide) ?_
  refine qp_into (nI 3) 3 (by decide) (Or.inr h43) (fun Q hQ => ?_)
  refine qp_pipeE 11 3 (by decide) (by decide) h113 (hQ _ ?_)
  refine qp_put 15 0 0 (by decide) (by decide) rfl ?_
  exact hp _ _ _ _ _ _ _ _ _ _ _ _ _ qp_code
end
section
/-! plans -/
theorem qp_noTable {post : Int32 → Prop} {tb nd cl mp wd nr lo rr rz : Int32} {a1 a2 a3 a4 a5 a6 a7 a8 a9 a10 a11 a12 a13 a14 a15 a16 a17 a18 a19 a20 a21 a22 a23 a24 a25 a26 a27 a28 a29 a30 : Nat → Int32} {x : Int32} (t : Nat) (ht : t < 2) (hp : post 0) (hx : x = nI t := by rfl) (htb : tb = nI 2 := by rfl) : wpX_noTable post (tb, nd, cl, mp, wd, nr, lo, rr, rz, a1, a2, a3, a4, a5, a6, a7, a8, a9, a10, a11, a12, a13, a14, a15, a16, a17, a18, a19, a20, a21, a22, a23, a24, a25, a26, a27, a28, a29, a30) x := by
  subst hx htb
  unfold wpX_noTable
  exact br_f (nI_pos (by omega)) (pk_lt t 2 (fun _ => hp) (fun z => absurd z (by omega)))
theorem qp_noNode {post : Int32 → Prop} {tb nd cl mp wd nr lo rr rz : Int32} {a1 a2 a3 a4 a5 a6 a7 a8 a9 a10 a11 a12 a13 a14 a15 a16 a17 a18 a19 a20 a21 a22 a23 a24 a25 a26 a27 a28 a29 a30 : Nat → Int32} {x : Int32} (t n : Nat) (ht : t < n) (hn : n ≤ 12) (hp : post 0) (hx : x = nI t := by rfl) (hnd : nd = nI n := by rfl) : wpX_noNode post (tb, nd, cl, mp, wd, nr, lo, rr, rz, a1, a2, a3, a4, a5, a6, a7, a8, a9, a10, a11, a12, a13, a14, a15, a16, a17, a18, a19, a20, a21, a22, a23, a24, a25, a26, a27, a28, a29, a30) x := by
  subst hx hnd
  unfold wpX_noNode
  exact br_f (nI_pos (by omega)) (pk_lt t n (fun _ => hp) (fun z => absurd z (by omega)))
theorem qp_noColumn {post : Int32 → Prop} {tb nd cl mp wd nr lo rr rz : Int32} {a1 a2 a3 a4 a5 a6 a7 a8 a9 a10 a11 a12 a13 a14 a15 a16 a17 a18 a19 a20 a21 a22 a23 a24 a25 a26 a27 a28 a29 a30 : Nat → Int32} {x y : Int32} (t c w : Nat) (ht : t < 12) (h11 : a11 t = nI w) (hw : w < 100) (hc : c < w) (hp : post 0) (hx : x = nI t := by rfl) (hy : y = nI c := by rfl) : wpX_noColumn post (tb, nd, cl, mp, wd, nr, lo, rr, rz, a1, a2, a3, a4, a5, a6, a7, a8, a9, a10, a11, a12, a13, a14, a15, a16, a17, a18, a19, a20, a21, a22, a23, a24, a25, a26, a27, a28, a29, a30) x y := by
  subst hy
  unfold wpX_noColumn
  exact br_f (nI_pos (by omega)) ⟨pk_in t 12 ht hx, pk_lt c w (fun _ => hp) (fun z => absurd z (by omega)) rfl (qp_at t h11 hx)⟩
theorem qp_addRow {post : Int32 → St2 → Prop} {tb nd cl mp wd nr lo rr rz : Int32} {a1 a2 a3 a4 a5 a6 a7 a8 a9 a10 a11 a12 a13 a14 a15 a16 a17 a18 a19 a20 a21 a22 a23 a24 a25 a26 a27 a28 a29 a30 : Nat → Int32} {x p q r : Int32} (t n : Nat) (ht : t < 2) (hn : n < 10) (h2 : a2 t = nI n)
    (hp : post (nI n) (tb, nd, cl, mp, wd, nr, lo, rr, rz, a1, upd a2 t (nI (n + 1)), upd (upd (upd a3 (t * 30 + n * 3) p) (t * 30 + n * 3 + 1) q) (t * 30 + n * 3 + 2) r, a4, a5, a6, a7, a8, a9, a10, a11, a12, a13, a14, a15, a16, a17, a18, a19, a20, a21, a22, a23, a24, a25, a26, a27, a28, a29, a30)) (hx : x = nI t := by rfl) (htb : tb = nI 2 := by rfl) :
    wpX_addRow post (tb, nd, cl, mp, wd, nr, lo, rr, rz, a1, a2, a3, a4, a5, a6, a7, a8, a9, a10, a11, a12, a13, a14, a15, a16, a17, a18, a19, a20, a21, a22, a23, a24, a25, a26, a27, a28, a29, a30) x p q r := by
  subst hx
  unfold wpX_addRow
  have e : nI t * 30 + nI n * 3 = nI (t * 30 + n * 3) := by
    show nI t * nI 30 + nI n * nI 3 = nI (t * 30 + n * 3)
    rw [pk_mul, pk_mul, nI_add]
  have e2 : nI (t * 30 + n * 3) + 2 = nI (t * 30 + n * 3 + 2) := nI_add _ 2
  refine qp_noTable t ht (br_t rfl ⟨pk_in t 4 (by omega), nm_r (e' := nI n) (qp_at t h2) (pk_lt n 10 (fun _ => nm_r e ?_) (fun z => absurd z (by omega)))⟩) rfl htb
  exact ⟨pk_in _ 120 (by omega) rfl, nm_r (qp_up _ rfl) ⟨pk_in _ 120 (by omega) (nI_1 _), nm_r (qp_up _ (nI_1 _)) ⟨pk_in _ 120 (by omega) e2, nm_r (qp_up _ e2) ⟨pk_in t 4 (by omega), nm_r (qp_uv t (nI_1 n)) hp⟩⟩⟩⟩
theorem qp_add {post : Int32 → St2 → Prop} {tb nd cl mp wd nr lo rr rz : Int32} {a1 a2 a3 a4 a5 a6 a7 a8 a9 a10 a11 a12 a13 a14 a15 a16 a17 a18 a19 a20 a21 a22 a23 a24 a25 a26 a27 a28 a29 a30 : Nat → Int32} {k a b w : Int32} (n : Nat) (A1 A2 : Nat → Int32) (hn : n < 12)
    (hA : (a < 0 ∧ A1 = upd a7 n (-1)) ∨ (∃ i : Nat, i < 12 ∧ a = nI i ∧ A1 = upd (upd a7 n (-1)) i (nI n)))
    (hB : (b < 0 ∧ A2 = A1) ∨ (∃ i : Nat, i < 12 ∧ b = nI i ∧ A2 = upd A1 i (nI n)))
    (hp : post (nI n) (tb, nI (n + 1), cl, mp, wd, nr, lo, rr, rz, a1, a2, a3, upd a4 n k, upd a5 n a, upd a6 n b, A2, a8, a9, a10, upd a11 n w, a12, a13, a14, a15, a16, a17, a18, a19, a20, a21, a22, a23, a24, a25, a26, a27, a28, a29, a30)) (hnd : nd = nI n := by rfl) :
    wpX_add post (tb, nd, cl, mp, wd, nr, lo, rr, rz, a1, a2, a3, a4, a5, a6, a7, a8, a9, a10, a11, a12, a13, a14, a15, a16, a17, a18, a19, a20, a21, a22, a23, a24, a25, a26, a27, a28, a29, a30) k a b w := by
  subst hnd
  have tail : wX_add_59 post b (nI n) tb (nI n) cl mp wd nr lo rr rz a1 a2 a3 (upd a4 n k) (upd a5 n a) (upd a6 n b) A1 a8 a9 a10 (upd a11 n w) a12 a13 a14 a15 a16 a17 a18 a19 a20 a21 a22 a23 a24 a25 a26 a27 a28 a29 a30 := by
    unfold wX_add_59
    rcases hB with ⟨hb, rfl⟩ | ⟨i, hi, rfl, rfl⟩
    · exact br_t hb (nm_r (nI_1 n) hp)
    · exact br_f (nI_pos (by omega)) ⟨pk_in i 12 hi, nm_r (qp_up i) (nm_r (nI_1 n) hp)⟩
  unfold wpX_add
  refine ⟨pk_in n 12 hn, nm_r (qp_up n) ⟨pk_in n 12 hn, nm_r (qp_up n) ⟨pk_in n 12 hn, nm_r (qp_up n) ⟨pk_in n 12 hn, nm_r (qp_up n) ⟨pk_in n 12 hn, nm_r (qp_up n) ?_⟩⟩⟩⟩⟩
  rcases hA with ⟨ha, rfl⟩ | ⟨i, hi, rfl, rfl⟩
  · exact br_t ha tail
  · exact br_f (nI_pos (by omega)) ⟨pk_in i 12 hi, nm_r (qp_up i) tail⟩
theorem qp_params {post : St2 → Prop} {tb nd cl mp wd nr lo rr rz : Int32} {a1 a2 a3 a4 a5 a6 a7 a8 a9 a10 a11 a12 a13 a14 a15 a16 a17 a18 a19 a20 a21 a22 a23 a24 a25 a26 a27 a28 a29 a30 : Nat → Int32} {x p q r : Int32} (n : Nat) (hn : n < 12) (hp : post (tb, nd, cl, mp, wd, nr, lo, rr, rz, a1, a2, a3, a4, a5, a6, a7, upd a8 n p, upd a9 n q, upd a10 n r, a11, a12, a13, a14, a15, a16, a17, a18, a19, a20, a21, a22, a23, a24, a25, a26, a27, a28, a29, a30)) (hx : x = nI n := by rfl) :
    wpX_params post (tb, nd, cl, mp, wd, nr, lo, rr, rz, a1, a2, a3, a4, a5, a6, a7, a8, a9, a10, a11, a12, a13, a14, a15, a16, a17, a18, a19, a20, a21, a22, a23, a24, a25, a26, a27, a28, a29, a30) x p q r := by
  subst hx
  unfold wpX_params
  exact ⟨pk_in n 12 hn, nm_r (qp_up n) ⟨pk_in n 12 hn, nm_r (qp_up n) ⟨pk_in n 12 hn, nm_r (qp_up n) hp⟩⟩⟩
theorem qp_scan {post : Int32 → St2 → Prop} {tb nd cl mp wd nr lo rr rz : Int32} {a1 a2 a3 a4 a5 a6 a7 a8 a9 a10 a11 a12 a13 a14 a15 a16 a17 a18 a19 a20 a21 a22 a23 a24 a25 a26 a27 a28 a29 a30 : Nat → Int32} {x : Int32} (n t : Nat) (w : Int32) (hn : n < 12) (ht : t < 2) (h1 : a1 t = w)
    (hp : post (nI n) (tb, nI (n + 1), cl, mp, wd, nr, lo, rr, rz, a1, a2, a3, upd a4 n 0, upd a5 n (-1), upd a6 n (-1), upd a7 n (-1), upd a8 n x, upd a9 n 0, upd a10 n 0, upd a11 n w, a12, a13, a14, a15, a16, a17, a18, a19, a20, a21, a22, a23, a24, a25, a26, a27, a28, a29, a30))
    (hx : x = nI t := by rfl) (hnd : nd = nI n := by rfl) (htb : tb = nI 2 := by rfl) : wpX_scan post (tb, nd, cl, mp, wd, nr, lo, rr, rz, a1, a2, a3, a4, a5, a6, a7, a8, a9, a10, a11, a12, a13, a14, a15, a16, a17, a18, a19, a20, a21, a22, a23, a24, a25, a26, a27, a28, a29, a30) x := by
  subst hnd
  unfold wpX_scan
  refine pk_lt n 12 (fun _ => ?_) (fun z => absurd z (by omega))
  refine qp_noTable t ht (br_t rfl ⟨pk_in t 4 (by omega) hx, ?_⟩) hx htb
  refine qp_add n (upd a7 n (-1)) (upd a7 n (-1)) hn (Or.inl ⟨by decide, rfl⟩) (Or.inl ⟨by decide, rfl⟩) ?_
  refine qp_params n hn ?_
  rw [show a1 x.toNatClampNeg = w from qp_at t h1 hx]
  exact hp
theorem qp_joinP {post : Int32 → St2 → Prop} {tb nd cl mp wd nr lo rr rz : Int32} {a1 a2 a3 a4 a5 a6 a7 a8 a9 a10 a11 a12 a13 a14 a15 a16 a17 a18 a19 a20 a21 a22 a23 a24 a25 a26 a27 a28 a29 a30 : Nat → Int32} {x y : Int32} (h70 : a7 0 = -1) (h71 : a7 1 = -1) (h110 : a11 0 = 2) (h111 : a11 1 = 2)
    (hp : post 2 (tb, 3, cl, mp, wd, nr, lo, rr, rz, a1, a2, a3, upd a4 2 5, upd a5 2 0, upd a6 2 1, upd (upd (upd a7 2 (-1)) 0 2) 1 2, upd a8 2 0, upd a9 2 0, upd a10 2 0, upd a11 2 4, a12, a13, a14, a15, a16, a17, a18, a19, a20, a21, a22, a23, a24, a25, a26, a27, a28, a29, a30))
    (hnd : nd = nI 2) (hx : x = 0) (hy : y = 1) : wpX_join post (tb, nd, cl, mp, wd, nr, lo, rr, rz, a1, a2, a3, a4, a5, a6, a7, a8, a9, a10, a11, a12, a13, a14, a15, a16, a17, a18, a19, a20, a21, a22, a23, a24, a25, a26, a27, a28, a29, a30) x y 0 0 := by
  subst hnd hx hy
  unfold wpX_join
  have pf : ∀ Q : Int32 → Prop, Q 0 → wpX_pairFault Q (tb, nI 2, cl, mp, wd, nr, lo, rr, rz, a1, a2, a3, a4, a5, a6, a7, a8, a9, a10, a11, a12, a13, a14, a15, a16, a17, a18, a19, a20, a21, a22, a23, a24, a25, a26, a27, a28, a29, a30) 0 1 := by
    intro Q hQ
    unfold wpX_pairFault
    refine pk_lt 2 12 (fun _ => ?_) (fun z => absurd z (by omega))
    refine qp_noNode 0 2 (by decide) (by decide) (br_t rfl ?_)
    refine qp_noNode 1 2 (by decide) (by decide) (br_t rfl ?_)
    exact ⟨pk_in 0 12 (by decide), br_f (qp_nle 0 h70 (by decide)) ⟨pk_in 1 12 (by decide), br_f (qp_nle 1 h71 (by decide)) (br_f (by decide) hQ)⟩⟩
  refine pf _ (br_t rfl (br_f (by decide) (br_t (by decide) (nm_r (e' := nI 0) (by decide) (nm_r (e' := nI 0) (by decide) ?_)))))
  refine qp_noColumn 0 0 2 (by decide) h110 (by decide) (by decide) (br_t rfl ?_)
  refine qp_noColumn 1 0 2 (by decide) h111 (by decide) (by decide) (br_t rfl ⟨pk_in 0 12 (by decide), nm_r (e' := nI 2) (qp_at 0 h110) (br_t rfl ?_)⟩)
  refine And.intro (pk_in 1 12 (by decide)) (nm_r (e' := nI 4) (by rw [show a11 (1 : Int32).toNatClampNeg = nI 2 from qp_at 1 h111]; decide) ?_)
  unfold wX_join_97
  refine br_t (by decide) ?_
  refine qp_add 2 (upd (upd a7 2 (-1)) 0 (nI 2)) (upd (upd (upd a7 2 (-1)) 0 (nI 2)) 1 (nI 2)) (by decide) (Or.inr ⟨0, by decide, rfl, rfl⟩) (Or.inr ⟨1, by decide, rfl, rfl⟩) ?_
  refine qp_params 2 (by decide) ?_
  exact hp
theorem qp_groupP {post : Int32 → St2 → Prop} {tb nd cl mp wd nr lo rr rz : Int32} {a1 a2 a3 a4 a5 a6 a7 a8 a9 a10 a11 a12 a13 a14 a15 a16 a17 a18 a19 a20 a21 a22 a23 a24 a25 a26 a27 a28 a29 a30 : Nat → Int32} {x : Int32} (h72 : a7 2 = -1) (h112 : a11 2 = 4)
    (hp : post 3 (tb, 4, cl, mp, wd, nr, lo, rr, rz, a1, a2, a3, upd a4 3 7, upd a5 3 2, upd a6 3 (-1), upd (upd a7 3 (-1)) 2 3, upd a8 3 0, upd a9 3 1, upd a10 3 3, upd a11 3 2, a12, a13, a14, a15, a16, a17, a18, a19, a20, a21, a22, a23, a24, a25, a26, a27, a28, a29, a30))
    (hnd : nd = nI 3) (hx : x = 2) : wpX_group post (tb, nd, cl, mp, wd, nr, lo, rr, rz, a1, a2, a3, a4, a5, a6, a7, a8, a9, a10, a11, a12, a13, a14, a15, a16, a17, a18, a19, a20, a21, a22, a23, a24, a25, a26, a27, a28, a29, a30) x 0 1 3 := by
  subst hnd hx
  unfold wpX_group
  have cf : ∀ Q : Int32 → Prop, Q 0 → wpX_childFault Q (tb, nI 3, cl, mp, wd, nr, lo, rr, rz, a1, a2, a3, a4, a5, a6, a7, a8, a9, a10, a11, a12, a13, a14, a15, a16, a17, a18, a19, a20, a21, a22, a23, a24, a25, a26, a27, a28, a29, a30) 2 := by
    intro Q hQ
    unfold wpX_childFault
    refine pk_lt 3 12 (fun _ => ?_) (fun z => absurd z (by omega))
    refine qp_noNode 2 3 (by decide) (by decide) (br_t rfl ?_)
    exact ⟨pk_in 2 12 (by decide), br_t (qp_lt 2 h72 (by decide)) hQ⟩
  refine cf _ (br_t rfl ?_)
  refine qp_noColumn 2 0 4 (by decide) h112 (by decide) (by decide) (br_t rfl ?_)
  refine qp_noColumn 2 3 4 (by decide) h112 (by decide) (by decide) (br_t rfl (br_f (by decide) (br_t (by decide) ?_)))
  refine qp_add 3 (upd (upd a7 3 (-1)) 2 (nI 3)) (upd (upd a7 3 (-1)) 2 (nI 3)) (by decide) (Or.inr ⟨2, by decide, rfl, rfl⟩) (Or.inl ⟨by decide, rfl⟩) ?_
  refine qp_params 3 (by decide) ?_
  exact hp
/-! a run: bounds, the compiler, the machine -/
theorem qp_b0 {post : Int32 → Prop} {tb nd cl mp wd nr lo rr rz : Int32} {a1 a2 a3 a4 a5 a6 a7 a8 a9 a10 a11 a12 a13 a14 a15 a16 a17 a18 a19 a20 a21 a22 a23 a24 a25 a26 a27 a28 a29 a30 : Nat → Int32} {x : Int32} (n t : Nat) (v : Int32) (hn : n < 12) (ht : t < 4) (h4 : a4 n = 0) (h8 : a8 n = nI t) (h2 : a2 t = v) (hp : post v) (hx : x = nI n := by rfl) : wpX_boundOf post (tb, nd, cl, mp, wd, nr, lo, rr, rz, a1, a2, a3, a4, a5, a6, a7, a8, a9, a10, a11, a12, a13, a14, a15, a16, a17, a18, a19, a20, a21, a22, a23, a24, a25, a26, a27, a28, a29, a30) x := by
  subst h2
  unfold wpX_boundOf
  refine ⟨pk_in n 12 hn hx, br_t (qp_at n h4 hx) ⟨pk_in n 12 hn hx, qp_inT n t 4 h8 ht hx, ?_⟩⟩
  rw [qp_at n h8 hx, nI_clamp (show t < 2 ^ 31 by omega)]
  exact hp
theorem qp_b2 {post : Int32 → Prop} {tb nd cl mp wd nr lo rr rz : Int32} {a1 a2 a3 a4 a5 a6 a7 a8 a9 a10 a11 a12 a13 a14 a15 a16 a17 a18 a19 a20 a21 a22 a23 a24 a25 a26 a27 a28 a29 a30 : Nat → Int32} (h4 : a4 2 = 5) (h5 : a5 2 = 0) (h6 : a6 2 = 1) (h8 : a8 2 = 0) (h120 : a12 0 = 2) (h121 : a12 1 = 2) (hp : post 4) : wpX_boundOf post (tb, nd, cl, mp, wd, nr, lo, rr, rz, a1, a2, a3, a4, a5, a6, a7, a8, a9, a10, a11, a12, a13, a14, a15, a16, a17, a18, a19, a20, a21, a22, a23, a24, a25, a26, a27, a28, a29, a30) (nI 2) := by
  unfold wpX_boundOf
  have e5 : a5 (nI 2).toNatClampNeg = nI 0 := qp_at 2 h5
  have e6 : a6 (nI 2).toNatClampNeg = nI 1 := qp_at 2 h6
  refine ⟨pk_in 2 12 (by decide), br_f (qp_ne 2 h4 (by decide)) ⟨pk_in 2 12 (by decide), qp_inT 2 0 12 h5 (by decide), nm_r (e' := nI 2) (qp_at 0 h120 e5) (br_t (by decide) ⟨pk_in 2 12 (by decide), br_f (qp_ne 2 h4 (by decide)) ⟨pk_in 2 12 (by decide), br_t (qp_at 2 h4) ?_⟩⟩)⟩⟩
  refine And.intro (pk_in 2 12 (by decide)) ⟨qp_inT 2 1 12 h6 (by decide), nm_r (e' := nI 2) (qp_at 1 h121 e6) (br_t (by decide) ⟨pk_in 2 12 (by decide), br_f (qp_ne 2 h4 (by decide)) ⟨pk_in 2 12 (by decide), br_t (qp_at 2 h8) (nm_r (e' := nI 4) (by decide) ?_)⟩⟩)⟩
  exact br_t (by decide) hp
theorem qp_b3 {post : Int32 → Prop} {tb nd cl mp wd nr lo rr rz : Int32} {a1 a2 a3 a4 a5 a6 a7 a8 a9 a10 a11 a12 a13 a14 a15 a16 a17 a18 a19 a20 a21 a22 a23 a24 a25 a26 a27 a28 a29 a30 : Nat → Int32} (h4 : a4 3 = 7) (h5 : a5 3 = 2) (h122 : a12 2 = 4) (hp : post 4) : wpX_boundOf post (tb, nd, cl, mp, wd, nr, lo, rr, rz, a1, a2, a3, a4, a5, a6, a7, a8, a9, a10, a11, a12, a13, a14, a15, a16, a17, a18, a19, a20, a21, a22, a23, a24, a25, a26, a27, a28, a29, a30) (nI 3) := by
  unfold wpX_boundOf
  have e5 : a5 (nI 3).toNatClampNeg = nI 2 := qp_at 3 h5
  refine ⟨pk_in 3 12 (by decide), br_f (qp_ne 3 h4 (by decide)) ⟨pk_in 3 12 (by decide), qp_inT 3 2 12 h5 (by decide), nm_r (e' := nI 4) (qp_at 2 h122 e5) (br_t (by decide) ⟨pk_in 3 12 (by decide), br_f (qp_ne 3 h4 (by decide)) ⟨pk_in 3 12 (by decide), br_f (qp_ne 3 h4 (by decide)) ⟨pk_in 3 12 (by decide), br_f (qp_ne 3 h4 (by decide)) ?_⟩⟩⟩)⟩⟩
  exact br_t (by decide) hp
theorem qp_run {post : Int32 → St2 → Prop} {tb nd cl mp wd nr lo rr rz : Int32} {a1 a2 a3 a4 a5 a6 a7 a8 a9 a10 a11 a12 a13 a14 a15 a16 a17 a18 a19 a20 a21 a22 a23 a24 a25 a26 a27 a28 a29 a30 : Nat → Int32} {x : Int32} (h40 : a4 0 = 0) (h41 : a4 1 = 0) (h42 : a4 2 = 5) (h43 : a4 3 = 7) (h50 : a5 0 = -1) (h51 : a5 1 = -1) (h52 : a5 2 = 0) (h53 : a5 3 = 2) (h60 : a6 0 = -1) (h61 : a6 1 = -1) (h62 : a6 2 = 1) (h63 : a6 3 = -1) (h70 : a7 0 = 2) (h82 : a8 2 = 0) (h83 : a8 3 = 0) (h92 : a9 2 = 0) (h103 : a10 3 = 3) (h110 : a11 0 = 2) (h111 : a11 1 = 2) (h113 : a11 3 = 2) (h20 : a2 0 = 2) (h21 : a2 1 = 2) (h80 : a8 0 = 0) (h81 : a8 1 = 1)
    (H : ∀ (cl mp wd nr lo : Int32) (a12 a13 a14 a15 a16 a17 a18 a19 a20 : Nat → Int32) (Q : St2 → Prop), qp_Code a14 a15 a16 a17 a18 → (∀ (tb nd cl mp wd nr lo rr rz : Int32) (a1 a2 a3 a4 a5 a6 a7 a8 a9 a10 a11 a12 a13 a14 a15 a16 a17 a18 a19 a20 a21 a22 a23 a24 a25 a26 a27 a28 a29 a30 : Nat → Int32), a11 3 = 2 → post rr (tb, nd, cl, mp, wd, nr, lo, rr, 2, a1, a2, a3, a4, a5, a6, a7, a8, a9, a10, a11, a12, a13, a14, a15, a16, a17, a18, a19, a20, a21, a22, a23, a24, a25, a26, a27, a28, a29, a30) → Q (tb, nd, cl, mp, wd, nr, lo, rr, rz, a1, a2, a3, a4, a5, a6, a7, a8, a9, a10, a11, a12, a13, a14, a15, a16, a17, a18, a19, a20, a21, a22, a23, a24, a25, a26, a27, a28, a29, a30)) → wpX_execute Q (tb, nd, cl, mp, wd, nr, lo, rr, rz, a1, a2, a3, a4, a5, a6, a7, a8, a9, a10, a11, a12, a13, a14, a15, a16, a17, a18, a19, a20, a21, a22, a23, a24, a25, a26, a27, a28, a29, a30)) (hnd : nd = nI 4) (hx : x = nI 3) :
    wpX_run post (tb, nd, cl, mp, wd, nr, lo, rr, rz, a1, a2, a3, a4, a5, a6, a7, a8, a9, a10, a11, a12, a13, a14, a15, a16, a17, a18, a19, a20, a21, a22, a23, a24, a25, a26, a27, a28, a29, a30) x := by
  subst hx
  unfold wpX_run
  refine qp_noNode 3 4 (by decide) (by decide) (br_t rfl ⟨5, ?_⟩) rfl hnd
  refine pk_lt 3 0 (fun z => absurd z (by omega)) (fun _ => qp_b0 0 0 2 (by decide) (by decide) h40 h80 h20 ⟨pk_in 0 12 (by decide), nm_r (qp_up 0) (nm_r (e' := nI 1) (by decide) ?_)⟩)
  refine pk_lt 3 1 (fun z => absurd z (by omega)) (fun _ => qp_b0 1 1 2 (by decide) (by decide) h41 h81 h21 ⟨pk_in 1 12 (by decide), nm_r (qp_up 1) (nm_r (e' := nI 2) (by decide) ?_)⟩)
  refine pk_lt 3 2 (fun z => absurd z (by omega)) (fun _ => qp_b2 h42 h52 h62 h82 rfl rfl ⟨pk_in 2 12 (by decide), nm_r (qp_up 2) (nm_r (e' := nI 3) (by decide) ?_)⟩)
  refine pk_lt 3 3 (fun z => absurd z (by omega)) (fun _ => qp_b3 h43 h53 rfl ⟨pk_in 3 12 (by decide), nm_r (qp_up 3) (nm_r (e' := nI 4) (by decide) ?_)⟩)
  refine pk_lt 3 4 (fun _ => ⟨pk_in 3 12 (by decide), br_t (qp_le 3 (v := 4) rfl (by decide)) ?_⟩) (fun z => absurd z (by omega))
  refine qp_compile h40 h41 h42 h43 h50 h51 h52 h53 h60 h61 h62 h63 h70 h82 h83 h92 h103 h110 h111 h113 ?_ hnd
  intro cl mp wd nr lo a13 a14 a15 a16 a17 a18 a19 a20 hC
  refine H _ _ _ _ _ _ _ _ _ _ _ _ _ _ _ hC ?_
  intro _ _ _ _ _ _ _ _ _ _ _ _ _ _ _ _ _ _ _ _ _ _ _ _ _ _ _ _ _ _ _ _ _ _ _ _ _ _ _ h11 h
  exact ⟨pk_in 3 12 (by decide), nm_r (e' := 2) (qp_at 3 h11) h⟩
end
section
/-! indices -/
theorem qp_i3 (N e c : Nat) : nI N * 144 + nI e * 6 + nI c = nI (N * 144 + e * 6 + c) := by
  show nI N * nI 144 + nI e * nI 6 + nI c = nI (N * 144 + e * 6 + c)
  rw [pk_mul, pk_mul, nI_add, nI_add]
theorem qp_i2 (N e : Nat) : nI N * 144 + nI e * 6 = nI (N * 144 + e * 6) := by
  show nI N * nI 144 + nI e * nI 6 = nI (N * 144 + e * 6)
  rw [pk_mul, pk_mul, nI_add]
theorem qp_i24 (N e : Nat) : nI N * 24 + nI e = nI (N * 24 + e) := by
  show nI N * nI 24 + nI e = nI (N * 24 + e)
  rw [pk_mul, nI_add]
theorem qp_i8 (N e : Nat) : nI N * 8 + nI e = nI (N * 8 + e) := by
  show nI N * nI 8 + nI e = nI (N * 8 + e)
  rw [pk_mul, nI_add]
theorem qp_it (t i c : Nat) : nI t * 30 + nI i * 3 + nI c = nI (t * 30 + i * 3 + c) := by
  show nI t * nI 30 + nI i * nI 3 + nI c = nI (t * 30 + i * 3 + c)
  rw [pk_mul, pk_mul, nI_add, nI_add]
/-! buckets -/
def qp_hx (k : Int32) : Int32 :=
  (((k ^^^ ((k.toUInt32 >>> ((15 : Int32).toUInt32 &&& Int32.toUInt32 31)).toInt32)) * 73) + (((k ^^^ ((k.toUInt32 >>> ((15 : Int32).toUInt32 &&& Int32.toUInt32 31)).toInt32)).toUInt32 >>> ((7 : Int32).toUInt32 &&& Int32.toUInt32 31)).toInt32)) ^^^ ((((((k ^^^ ((k.toUInt32 >>> ((15 : Int32).toUInt32 &&& Int32.toUInt32 31)).toInt32)) * 73) + (((k ^^^ ((k.toUInt32 >>> ((15 : Int32).toUInt32 &&& Int32.toUInt32 31)).toInt32)).toUInt32 >>> ((7 : Int32).toUInt32 &&& Int32.toUInt32 31)).toInt32))).toUInt32 >>> ((11 : Int32).toUInt32 &&& Int32.toUInt32 31)).toInt32)
def qp_bk (k : Int32) : Nat := (qp_hx k).toBitVec.toNat % 2 ^ 3
theorem qp_bk8 (k : Int32) : qp_bk k < 8 := Nat.mod_lt _ (by decide)
theorem qp_bucket {post : Int32 → Prop} {u : St0} {x : Int32} (hp : post (nI (qp_bk x))) : wpX_bucket post u x := by
  have e : qp_hx x &&& 7 = nI (qp_bk x) := pk_and (qp_hx x) 3 (by decide)
  rw [← e] at hp
  unfold wpX_bucket
  exact nm_e (nm_e hp)
/-! seek -/
theorem qp_skN {post : Int32 → Prop} {tb nd cl mp wd nr lo rr rz : Int32} {a1 a2 a3 a4 a5 a6 a7 a8 a9 a10 a11 a12 a13 a14 a15 a16 a17 a18 a19 a20 a21 a22 a23 a24 a25 a26 a27 a28 a29 a30 : Nat → Int32} {N c key e : Int32} (n i : Nat) (hi : i < 100) (he : e = -1) (hp : post (-1)) : wX_seek_7 post N c key tb nd cl mp wd nr lo rr rz a1 a2 a3 a4 a5 a6 a7 a8 a9 a10 a11 a12 a13 a14 a15 a16 a17 a18 a19 a20 a21 a22 a23 a24 a25 a26 a27 a28 a29 a30 (n + 1) e (nI i) := by
  subst he
  exact pk_le 24 i (fun _ => hp) (fun _ => br_t (by decide) hp)
theorem qp_skH {post : Int32 → Prop} {tb nd cl mp wd nr lo rr rz : Int32} {a1 a2 a3 a4 a5 a6 a7 a8 a9 a10 a11 a12 a13 a14 a15 a16 a17 a18 a19 a20 a21 a22 a23 a24 a25 a26 a27 a28 a29 a30 : Nat → Int32} {N' c' key e' : Int32} (N c e n i : Nat) (hi : i < 24) (hN : N < 12) (hc : c < 6) (he : e < 24) (hs : a25 (N * 144 + e * 6 + c) = key) (hp : post (nI e)) (hN' : N' = nI N := by rfl) (hc' : c' = nI c := by rfl) (he' : e' = nI e := by rfl) :
    wX_seek_7 post N' c' key tb nd cl mp wd nr lo rr rz a1 a2 a3 a4 a5 a6 a7 a8 a9 a10 a11 a12 a13 a14 a15 a16 a17 a18 a19 a20 a21 a22 a23 a24 a25 a26 a27 a28 a29 a30 (n + 1) e' (nI i) := by
  subst hN' hc' he'
  exact pk_le 24 i (fun z => absurd z (by omega)) (fun _ => br_f (nI_pos (by omega)) ⟨pk_in _ 1728 (by omega) (qp_i3 N e c), br_t (qp_at _ hs (qp_i3 N e c)) hp⟩)
theorem qp_skM {post : Int32 → Prop} {tb nd cl mp wd nr lo rr rz : Int32} {a1 a2 a3 a4 a5 a6 a7 a8 a9 a10 a11 a12 a13 a14 a15 a16 a17 a18 a19 a20 a21 a22 a23 a24 a25 a26 a27 a28 a29 a30 : Nat → Int32} {N' c' key e' : Int32} (N c e n i : Nat) (hi : i < 24) (hN : N < 12) (hc : c < 6) (he : e < 24) (hs : a25 (N * 144 + e * 6 + c) ≠ key) (hN' : N' = nI N) (hc' : c' = nI c) (he' : e' = nI e)
    (hk : wX_seek_7 post N' c' key tb nd cl mp wd nr lo rr rz a1 a2 a3 a4 a5 a6 a7 a8 a9 a10 a11 a12 a13 a14 a15 a16 a17 a18 a19 a20 a21 a22 a23 a24 a25 a26 a27 a28 a29 a30 n (a29 (N * 24 + e)) (nI (i + 1))) : wX_seek_7 post N' c' key tb nd cl mp wd nr lo rr rz a1 a2 a3 a4 a5 a6 a7 a8 a9 a10 a11 a12 a13 a14 a15 a16 a17 a18 a19 a20 a21 a22 a23 a24 a25 a26 a27 a28 a29 a30 (n + 1) e' (nI i) := by
  subst hN' hc' he'
  exact pk_le 24 i (fun z => absurd z (by omega)) (fun _ => br_f (nI_pos (by omega)) ⟨pk_in _ 1728 (by omega) (qp_i3 N e c), br_f (qp_ne _ rfl hs (qp_i3 N e c)) ⟨pk_in _ 288 (by omega) (qp_i24 N e), nm_r (qp_at _ rfl (qp_i24 N e)) (nm_r (nI_1 i) hk)⟩⟩)
/-! the store of one node: none, one or two rows, their keys in column 0 -/
def qp_R0 (N : Nat) (a26 a27 : Nat → Int32) : Prop := a26 N = 0 ∧ ∀ h, h < 8 → a27 (N * 8 + h) = -1
def qp_R1 (N : Nat) (x : Int32) (a25 a26 a27 a28 a29 : Nat → Int32) : Prop :=
  a26 N = 1 ∧ a25 (N * 144) = x ∧ (∀ h, h < 8 → a27 (N * 8 + h) = if h = qp_bk x then 0 else -1) ∧ a28 (N * 8 + qp_bk x) = 0 ∧ a29 (N * 24) = -1
def qp_R2 (N : Nat) (x y : Int32) (a25 a26 a27 a29 : Nat → Int32) : Prop :=
  a26 N = 2 ∧ a25 (N * 144) = x ∧ a25 (N * 144 + 6) = y ∧ (∀ h, h < 8 → a27 (N * 8 + h) = if h = qp_bk x then 0 else if h = qp_bk y then 1 else -1) ∧ a29 (N * 24) = (if qp_bk x = qp_bk y then 1 else -1) ∧ a29 (N * 24 + 1) = -1
/-- what a change at node N leaves as it is -/
def qp_Fr (N : Nat) (a26 a27 a29 b26 b27 b29 : Nat → Int32) : Prop :=
  (∀ j, j ≠ N → b26 j = a26 j) ∧ (∀ j, j < N * 8 ∨ N * 8 + 8 ≤ j → b27 j = a27 j) ∧ (∀ j, j < N * 24 → b29 j = a29 j)
theorem qp_look0 {post : Int32 → Prop} {tb nd cl mp wd nr lo rr rz : Int32} {a1 a2 a3 a4 a5 a6 a7 a8 a9 a10 a11 a12 a13 a14 a15 a16 a17 a18 a19 a20 a21 a22 a23 a24 a25 a26 a27 a28 a29 a30 : Nat → Int32} {N' c' key e' : Int32} (N : Nat) (R : qp_R0 N a26 a27) (hp : post (-1)) (he' : e' = a27 (N * 8 + qp_bk key)) : wpX_seek post (tb, nd, cl, mp, wd, nr, lo, rr, rz, a1, a2, a3, a4, a5, a6, a7, a8, a9, a10, a11, a12, a13, a14, a15, a16, a17, a18, a19, a20, a21, a22, a23, a24, a25, a26, a27, a28, a29, a30) N' c' key e' := by
  unfold wpX_seek
  exact ⟨1, qp_skN 0 0 (by omega) (he'.trans (R.2 _ (qp_bk8 key))) hp⟩
theorem qp_look1 {post : Int32 → Prop} {tb nd cl mp wd nr lo rr rz : Int32} {a1 a2 a3 a4 a5 a6 a7 a8 a9 a10 a11 a12 a13 a14 a15 a16 a17 a18 a19 a20 a21 a22 a23 a24 a25 a26 a27 a28 a29 a30 : Nat → Int32} {N' key e' x : Int32} (N : Nat) (hN : N < 12) (R : qp_R1 N x a25 a26 a27 a28 a29) (hp : post (if x = key then 0 else -1)) (hN' : N' = nI N) (he' : e' = a27 (N * 8 + qp_bk key)) : wpX_seek post (tb, nd, cl, mp, wd, nr, lo, rr, rz, a1, a2, a3, a4, a5, a6, a7, a8, a9, a10, a11, a12, a13, a14, a15, a16, a17, a18, a19, a20, a21, a22, a23, a24, a25, a26, a27, a28, a29, a30) N' 0 key e' := by
  obtain ⟨r1, r2, r3, r4, r5⟩ := R
  unfold wpX_seek
  have hh := r3 _ (qp_bk8 key)
  by_cases g : qp_bk key = qp_bk x
  · rw [if_pos g] at hh
    by_cases gx : x = key
    · rw [if_pos gx] at hp
      exact ⟨1, qp_skH N 0 0 0 0 (by omega) hN (by omega) (by omega) (r2.trans gx) hp hN' rfl (he'.trans hh)⟩
    · rw [if_neg gx] at hp
      exact ⟨2, qp_skM N 0 0 1 0 (by omega) hN (by omega) (by omega) (fun z => gx (r2.symm.trans z)) hN' rfl (he'.trans hh) (qp_skN 0 1 (by omega) r5 hp)⟩
  · rw [if_neg g] at hh
    have gx : ¬ x = key := fun z => g (by rw [z])
    rw [if_neg gx] at hp
    exact ⟨1, qp_skN 0 0 (by omega) (he'.trans hh) hp⟩
theorem qp_look2 {post : Int32 → Prop} {tb nd cl mp wd nr lo rr rz : Int32} {a1 a2 a3 a4 a5 a6 a7 a8 a9 a10 a11 a12 a13 a14 a15 a16 a17 a18 a19 a20 a21 a22 a23 a24 a25 a26 a27 a28 a29 a30 : Nat → Int32} {N' key e' x y : Int32} (N : Nat) (hN : N < 12) (R : qp_R2 N x y a25 a26 a27 a29) (hp : post (if x = key then 0 else if y = key then 1 else -1)) (hN' : N' = nI N) (he' : e' = a27 (N * 8 + qp_bk key)) : wpX_seek post (tb, nd, cl, mp, wd, nr, lo, rr, rz, a1, a2, a3, a4, a5, a6, a7, a8, a9, a10, a11, a12, a13, a14, a15, a16, a17, a18, a19, a20, a21, a22, a23, a24, a25, a26, a27, a28, a29, a30) N' 0 key e' := by
  obtain ⟨r1, r2, r3, r4, r5, r6⟩ := R
  unfold wpX_seek
  have hh := r4 _ (qp_bk8 key)
  by_cases g : qp_bk key = qp_bk x
  · rw [if_pos g] at hh
    by_cases gx : x = key
    · rw [if_pos gx] at hp
      exact ⟨1, qp_skH N 0 0 0 0 (by omega) hN (by omega) (by omega) (r2.trans gx) hp hN' rfl (he'.trans hh)⟩
    · rw [if_neg gx] at hp
      refine ⟨3, qp_skM N 0 0 2 0 (by omega) hN (by omega) (by omega) (fun z => gx (r2.symm.trans z)) hN' rfl (he'.trans hh) ?_⟩
      by_cases gb : qp_bk x = qp_bk y
      · rw [if_pos gb] at r5
        by_cases gy : y = key
        · rw [if_pos gy] at hp
          exact qp_skH N 0 1 1 1 (by omega) hN (by omega) (by omega) (r3.trans gy) hp hN' rfl r5
        · rw [if_neg gy] at hp
          exact qp_skM N 0 1 1 1 (by omega) hN (by omega) (by omega) (fun z => gy (r3.symm.trans z)) hN' rfl r5 (qp_skN 0 2 (by omega) r6 hp)
      · rw [if_neg gb] at r5
        have gy : ¬ y = key := fun z => gb (by rw [← g, z])
        rw [if_neg gy] at hp
        exact qp_skN 1 1 (by omega) r5 hp
  · rw [if_neg g] at hh
    have gx : ¬ x = key := fun z => g (by rw [z])
    rw [if_neg gx] at hp
    by_cases g2 : qp_bk key = qp_bk y
    · rw [if_pos g2] at hh
      by_cases gy : y = key
      · rw [if_pos gy] at hp
        exact ⟨1, qp_skH N 0 1 0 0 (by omega) hN (by omega) (by omega) (r3.trans gy) hp hN' rfl (he'.trans hh)⟩
      · rw [if_neg gy] at hp
        exact ⟨2, qp_skM N 0 1 1 0 (by omega) hN (by omega) (by omega) (fun z => gy (r3.symm.trans z)) hN' rfl (he'.trans hh) (qp_skN 0 1 (by omega) r6 hp)⟩
    · rw [if_neg g2] at hh
      have gy : ¬ y = key := fun z => g2 (by rw [z])
      rw [if_neg gy] at hp
      exact ⟨1, qp_skN 0 0 (by omega) (he'.trans hh) hp⟩
/-- going on behind row 0 -/
theorem qp_lookB {post : Int32 → Prop} {tb nd cl mp wd nr lo rr rz : Int32} {a1 a2 a3 a4 a5 a6 a7 a8 a9 a10 a11 a12 a13 a14 a15 a16 a17 a18 a19 a20 a21 a22 a23 a24 a25 a26 a27 a28 a29 a30 : Nat → Int32} {N' key e' x y : Int32} (N : Nat) (hN : N < 12) (R : qp_R2 N x y a25 a26 a27 a29) (hx : x = key) (hp : post (if y = key then 1 else -1)) (hN' : N' = nI N) (he' : e' = a29 (N * 24)) : wpX_seek post (tb, nd, cl, mp, wd, nr, lo, rr, rz, a1, a2, a3, a4, a5, a6, a7, a8, a9, a10, a11, a12, a13, a14, a15, a16, a17, a18, a19, a20, a21, a22, a23, a24, a25, a26, a27, a28, a29, a30) N' 0 key e' := by
  obtain ⟨r1, r2, r3, r4, r5, r6⟩ := R
  unfold wpX_seek
  by_cases gb : qp_bk x = qp_bk y
  · rw [if_pos gb] at r5
    by_cases gy : y = key
    · rw [if_pos gy] at hp
      exact ⟨1, qp_skH N 0 1 0 0 (by omega) hN (by omega) (by omega) (r3.trans gy) hp hN' rfl (he'.trans r5)⟩
    · rw [if_neg gy] at hp
      exact ⟨2, qp_skM N 0 1 1 0 (by omega) hN (by omega) (by omega) (fun z => gy (r3.symm.trans z)) hN' rfl (he'.trans r5) (qp_skN 0 1 (by omega) r6 hp)⟩
  · rw [if_neg gb] at r5
    have gy : ¬ y = key := fun z => gb (by rw [hx, z])
    rw [if_neg gy] at hp
    exact ⟨1, qp_skN 0 0 (by omega) (he'.trans r5) hp⟩
theorem qp_lookE {post : Int32 → Prop} {tb nd cl mp wd nr lo rr rz : Int32} {a1 a2 a3 a4 a5 a6 a7 a8 a9 a10 a11 a12 a13 a14 a15 a16 a17 a18 a19 a20 a21 a22 a23 a24 a25 a26 a27 a28 a29 a30 : Nat → Int32} {N' c' key e' : Int32} (hp : post (-1)) (he' : e' = -1) : wpX_seek post (tb, nd, cl, mp, wd, nr, lo, rr, rz, a1, a2, a3, a4, a5, a6, a7, a8, a9, a10, a11, a12, a13, a14, a15, a16, a17, a18, a19, a20, a21, a22, a23, a24, a25, a26, a27, a28, a29, a30) N' c' key e' := by
  unfold wpX_seek
  exact ⟨1, qp_skN 0 0 (by omega) he' hp⟩
/-! chain: a row at the end of its bucket's chain -/
theorem qp_chain0 {post : St2 → Prop} {tb nd cl mp wd nr lo rr rz : Int32} {a1 a2 a3 a4 a5 a6 a7 a8 a9 a10 a11 a12 a13 a14 a15 a16 a17 a18 a19 a20 a21 a22 a23 a24 a25 a26 a27 a28 a29 a30 : Nat → Int32} {N' e' h' : Int32} (N : Nat) (x : Int32) (hN : N < 12) (R : qp_R0 N a26 a27) (h25 : a25 (N * 144) = x)
    (hp : ∀ b26 b27 b28 b29 : Nat → Int32, qp_R1 N x a25 b26 b27 b28 b29 → qp_Fr N a26 a27 a29 b26 b27 b29 → post (tb, nd, cl, mp, wd, nr, lo, rr, rz, a1, a2, a3, a4, a5, a6, a7, a8, a9, a10, a11, a12, a13, a14, a15, a16, a17, a18, a19, a20, a21, a22, a23, a24, a25, b26, b27, b28, b29, a30))
    (hN' : N' = nI N) (he' : e' = 0) (hh' : h' = nI (qp_bk x)) : wpX_chain post (tb, nd, cl, mp, wd, nr, lo, rr, rz, a1, a2, a3, a4, a5, a6, a7, a8, a9, a10, a11, a12, a13, a14, a15, a16, a17, a18, a19, a20, a21, a22, a23, a24, a25, a26, a27, a28, a29, a30) N' e' h' := by
  subst hN' he' hh'
  obtain ⟨r1, r2⟩ := R
  have hb := qp_bk8 x
  have e24 : nI N * 24 + 0 = nI (N * 24 + 0) := qp_i24 N 0
  unfold wpX_chain
  refine nm_r (qp_i8 N _) ⟨pk_in _ 288 (by omega) e24, nm_r (qp_up _ e24) ⟨pk_in _ 96 (by omega) rfl, br_f (qp_nle _ (r2 _ hb) (by decide)) ⟨pk_in _ 96 (by omega) rfl, nm_r (qp_up _ rfl) ?_⟩⟩⟩
  refine And.intro (pk_in _ 96 (by omega) rfl) (nm_r (qp_up _ rfl) ⟨pk_in N 12 hN, nm_r (qp_uv N (w := 1) (by decide)) (hp _ _ _ _ ⟨?_, ?_, ?_, ?_, ?_⟩ ⟨?_, ?_, ?_⟩)⟩)
  · exact pk_us
  · exact h25
  · intro h hh
    by_cases g : h = qp_bk x
    · rw [if_pos g, g]
      exact pk_us
    · rw [if_neg g, pk_un (by omega)]
      exact r2 h hh
  · exact pk_us
  · exact pk_us
  · intro j hj
    exact pk_un hj
  · intro j hj
    exact pk_un (by omega)
  · intro j hj
    exact pk_un (by omega)
theorem qp_chain1 {post : St2 → Prop} {tb nd cl mp wd nr lo rr rz : Int32} {a1 a2 a3 a4 a5 a6 a7 a8 a9 a10 a11 a12 a13 a14 a15 a16 a17 a18 a19 a20 a21 a22 a23 a24 a25 a26 a27 a28 a29 a30 : Nat → Int32} {N' e' h' : Int32} (N : Nat) (x y : Int32) (hN : N < 12) (R : qp_R1 N x a25 a26 a27 a28 a29) (h25 : a25 (N * 144 + 6) = y)
    (hp : ∀ b26 b27 b28 b29 : Nat → Int32, qp_R2 N x y a25 b26 b27 b29 → qp_Fr N a26 a27 a29 b26 b27 b29 → post (tb, nd, cl, mp, wd, nr, lo, rr, rz, a1, a2, a3, a4, a5, a6, a7, a8, a9, a10, a11, a12, a13, a14, a15, a16, a17, a18, a19, a20, a21, a22, a23, a24, a25, b26, b27, b28, b29, a30))
    (hN' : N' = nI N) (he' : e' = 1) (hh' : h' = nI (qp_bk y)) : wpX_chain post (tb, nd, cl, mp, wd, nr, lo, rr, rz, a1, a2, a3, a4, a5, a6, a7, a8, a9, a10, a11, a12, a13, a14, a15, a16, a17, a18, a19, a20, a21, a22, a23, a24, a25, a26, a27, a28, a29, a30) N' e' h' := by
  subst hN' he' hh'
  obtain ⟨r1, r2, r3, r4, r5⟩ := R
  have hb := qp_bk8 y
  have hbx := qp_bk8 x
  have e24 : nI N * 24 + 1 = nI (N * 24 + 1) := qp_i24 N 1
  unfold wpX_chain
  refine nm_r (qp_i8 N _) ⟨pk_in _ 288 (by omega) e24, nm_r (qp_up _ e24) ⟨pk_in _ 96 (by omega) rfl, ?_⟩⟩
  have hh := r3 _ hb
  by_cases g : qp_bk y = qp_bk x
  · rw [if_pos g] at hh
    have t8 : a28 (nI (N * 8 + qp_bk y)).toNatClampNeg = 0 := qp_at (N * 8 + qp_bk y) (by rw [g]; exact r4)
    have t24 : nI N * 24 + a28 (nI (N * 8 + qp_bk y)).toNatClampNeg = nI (N * 24 + 0) := by
      rw [t8]
      exact qp_i24 N 0
    refine br_t (qp_le _ hh (by decide)) ⟨pk_in _ 96 (by omega) rfl, pk_in _ 288 (by omega) t24, nm_r (qp_up _ t24) ?_⟩
    refine And.intro (pk_in _ 96 (by omega) rfl) (nm_r (qp_up _ rfl) ⟨pk_in N 12 hN, nm_r (qp_uv N (w := 2) (by decide)) (hp _ _ _ _ ⟨?_, r2, h25, ?_, ?_, ?_⟩ ⟨?_, ?_, ?_⟩)⟩)
    · exact pk_us
    · intro h hh8
      rw [r3 h hh8]
      by_cases g2 : h = qp_bk x
      · rw [if_pos g2, if_pos g2]
      · rw [if_neg g2, if_neg g2, if_neg (by rw [g]; exact g2)]
    · rw [if_pos g.symm]
      exact pk_us
    · rw [pk_un (by omega)]
      exact pk_us
    · intro j hj
      exact pk_un hj
    · intro j hj
      rfl
    · intro j hj
      rw [pk_un (by omega), pk_un (by omega)]
  · rw [if_neg g] at hh
    refine br_f (qp_nle _ hh (by decide)) ⟨pk_in _ 96 (by omega) rfl, nm_r (qp_up _ rfl) ?_⟩
    refine And.intro (pk_in _ 96 (by omega) rfl) (nm_r (qp_up _ rfl) ⟨pk_in N 12 hN, nm_r (qp_uv N (w := 2) (by decide)) (hp _ _ _ _ ⟨?_, r2, h25, ?_, ?_, ?_⟩ ⟨?_, ?_, ?_⟩)⟩)
    · exact pk_us
    · intro h hh8
      by_cases g2 : h = qp_bk y
      · rw [g2, if_neg g, if_pos rfl]
        exact pk_us
      · rw [pk_un (by omega), r3 h hh8]
        by_cases g3 : h = qp_bk x
        · rw [if_pos g3, if_pos g3]
        · rw [if_neg g3, if_neg g3, if_neg g2]
    · rw [if_neg (fun z => g z.symm), pk_un (by omega)]
      exact r5
    · exact pk_us
    · intro j hj
      exact pk_un hj
    · intro j hj
      exact pk_un (by omega)
    · intro j hj
      exact pk_un (by omega)
end
section
/-! the machine's methods -/
theorem qp_fetchT {post : Int32 → St2 → Prop} {tb nd cl mp wd nr lo rr rz : Int32} {a1 a2 a3 a4 a5 a6 a7 a8 a9 a10 a11 a12 a13 a14 a15 a16 a17 a18 a19 a20 a21 a22 a23 a24 a25 a26 a27 a28 a29 a30 : Nat → Int32} {N' l' m' : Int32} (N t i m : Nat) (hN : N < 12) (ht : t < 4) (hm : m ≤ 10) (hi : i < m) (h22 : a22 0 = nI i) (h4 : a4 N = 0) (h8 : a8 N = nI t) (h2 : a2 t = nI m) (h11 : a11 N = 2)
    (hp : post 1 (tb, nd, cl, mp, wd, nr, lo, rr, rz, a1, a2, a3, a4, a5, a6, a7, a8, a9, a10, a11, a12, a13, a14, a15, a16, a17, a18, a19, a20, upd (upd a21 0 (a3 (t * 30 + i * 3))) 1 (a3 (t * 30 + i * 3 + 1)), upd a22 0 (nI (i + 1)), a23, a24, a25, a26, a27, a28, a29, a30))
    (hN' : N' = nI N := by rfl) (hl' : l' = 0 := by rfl) (hm' : m' = 32 := by rfl) : wpX_fetch post (tb, nd, cl, mp, wd, nr, lo, rr, rz, a1, a2, a3, a4, a5, a6, a7, a8, a9, a10, a11, a12, a13, a14, a15, a16, a17, a18, a19, a20, a21, a22, a23, a24, a25, a26, a27, a28, a29, a30) l' N' m' := by
  subst hN' hl' hm'
  have e8 : a8 (nI N).toNatClampNeg = nI t := qp_at N h8
  have x0 : a8 (nI N).toNatClampNeg * 30 + nI i * 3 + nI 0 = nI (t * 30 + i * 3 + 0) := by rw [e8]; exact qp_it t i 0
  have x1 : a8 (nI N).toNatClampNeg * 30 + nI i * 3 + nI 1 = nI (t * 30 + i * 3 + 1) := by rw [e8]; exact qp_it t i 1
  unfold wpX_fetch
  refine ⟨pk_in 0 8 (by decide), nm_r (e' := nI i) (qp_at 0 h22) ⟨pk_in N 12 hN, br_t (qp_at N h4) ?_⟩⟩
  refine br_f (by decide) ⟨pk_in N 12 hN, qp_inT N t 4 h8 ht, ?_⟩
  refine pk_lt i m (fun _ => ⟨3, ?_⟩) (fun z => absurd z (by omega)) rfl (qp_at t h2 e8)
  refine And.intro (pk_in N 12 hN) (pk_le 2 0 (fun z => absurd z (by omega)) (fun _ => br_f (by decide) ⟨pk_in N 12 hN, pk_in _ 120 (by omega) x0, ?_⟩) (qp_at N h11))
  refine And.intro (pk_in 0 32 (by decide) (by decide)) (nm_r (qp_uv 0 (qp_at _ rfl x0) (by decide)) (nm_r (e' := nI 1) (by decide) ?_))
  refine And.intro (pk_in N 12 hN) (pk_le 2 1 (fun z => absurd z (by omega)) (fun _ => br_f (by decide) ⟨pk_in N 12 hN, pk_in _ 120 (by omega) x1, ?_⟩) (qp_at N h11))
  refine And.intro (pk_in 1 32 (by decide) (by decide)) (nm_r (qp_uv 1 (qp_at _ rfl x1) (by decide)) (nm_r (e' := nI 2) (by decide) ?_))
  exact And.intro (pk_in N 12 hN) (pk_le 2 2 (fun _ => ⟨pk_in 0 8 (by decide), nm_r (qp_uv 0 (nI_1 i)) hp⟩) (fun z => absurd z (by omega)) (qp_at N h11))
theorem qp_fetchTE {post : Int32 → St2 → Prop} {tb nd cl mp wd nr lo rr rz : Int32} {a1 a2 a3 a4 a5 a6 a7 a8 a9 a10 a11 a12 a13 a14 a15 a16 a17 a18 a19 a20 a21 a22 a23 a24 a25 a26 a27 a28 a29 a30 : Nat → Int32} {N' l' m' : Int32} (N t m : Nat) (hN : N < 12) (ht : t < 4) (hm : m ≤ 10) (h22 : a22 0 = nI m) (h4 : a4 N = 0) (h8 : a8 N = nI t) (h2 : a2 t = nI m)
    (hp : post 0 (tb, nd, cl, mp, wd, nr, lo, rr, rz, a1, a2, a3, a4, a5, a6, a7, a8, a9, a10, a11, a12, a13, a14, a15, a16, a17, a18, a19, a20, a21, a22, a23, a24, a25, a26, a27, a28, a29, a30)) (hN' : N' = nI N := by rfl) (hl' : l' = 0 := by rfl) : wpX_fetch post (tb, nd, cl, mp, wd, nr, lo, rr, rz, a1, a2, a3, a4, a5, a6, a7, a8, a9, a10, a11, a12, a13, a14, a15, a16, a17, a18, a19, a20, a21, a22, a23, a24, a25, a26, a27, a28, a29, a30) l' N' m' := by
  subst hN' hl'
  have e8 : a8 (nI N).toNatClampNeg = nI t := qp_at N h8
  unfold wpX_fetch
  refine ⟨pk_in 0 8 (by decide), nm_r (e' := nI m) (qp_at 0 h22) ⟨pk_in N 12 hN, br_t (qp_at N h4) ?_⟩⟩
  refine br_f (by decide) ⟨pk_in N 12 hN, qp_inT N t 4 h8 ht, ?_⟩
  exact pk_lt m m (fun z => absurd z (by omega)) (fun _ => hp) rfl (qp_at t h2 e8)
theorem qp_fetchS {post : Int32 → St2 → Prop} {tb nd cl mp wd nr lo rr rz : Int32} {a1 a2 a3 a4 a5 a6 a7 a8 a9 a10 a11 a12 a13 a14 a15 a16 a17 a18 a19 a20 a21 a22 a23 a24 a25 a26 a27 a28 a29 a30 : Nat → Int32} {N' l' m' : Int32} (i m : Nat) (hm : m ≤ 2) (hi : i < m) (h22 : a22 0 = nI i) (h4 : a4 3 = 7) (h26 : a26 3 = nI m) (h11 : a11 3 = 2)
    (hp : post 1 (tb, nd, cl, mp, wd, nr, lo, rr, rz, a1, a2, a3, a4, a5, a6, a7, a8, a9, a10, a11, a12, a13, a14, a15, a16, a17, a18, a19, a20, upd (upd a21 0 (a25 (432 + i * 6))) 1 (a25 (432 + i * 6 + 1)), upd a22 0 (nI (i + 1)), a23, a24, a25, a26, a27, a28, a29, a30))
    (hN' : N' = nI 3 := by rfl) (hl' : l' = 0 := by rfl) (hm' : m' = 32 := by rfl) : wpX_fetch post (tb, nd, cl, mp, wd, nr, lo, rr, rz, a1, a2, a3, a4, a5, a6, a7, a8, a9, a10, a11, a12, a13, a14, a15, a16, a17, a18, a19, a20, a21, a22, a23, a24, a25, a26, a27, a28, a29, a30) l' N' m' := by
  subst hN' hl' hm'
  have x0 : nI 3 * 144 + nI i * 6 + nI 0 = nI (432 + i * 6 + 0) := qp_i3 3 i 0
  have x1 : nI 3 * 144 + nI i * 6 + nI 1 = nI (432 + i * 6 + 1) := qp_i3 3 i 1
  unfold wpX_fetch
  refine ⟨pk_in 0 8 (by decide), nm_r (e' := nI i) (qp_at 0 h22) ⟨pk_in 3 12 (by decide), br_f (qp_ne 3 h4 (by decide)) ?_⟩⟩
  refine br_t rfl ⟨pk_in 3 12 (by decide), ?_⟩
  refine pk_lt i m (fun _ => ⟨3, ?_⟩) (fun z => absurd z (by omega)) rfl (qp_at 3 h26)
  refine And.intro (pk_in 3 12 (by decide)) (pk_le 2 0 (fun z => absurd z (by omega)) (fun _ => br_t rfl ⟨pk_in _ 1728 (by omega) x0, ?_⟩) (qp_at 3 h11))
  refine And.intro (pk_in 0 32 (by decide) (by decide)) (nm_r (qp_uv 0 (qp_at _ rfl x0) (by decide)) (nm_r (e' := nI 1) (by decide) ?_))
  refine And.intro (pk_in 3 12 (by decide)) (pk_le 2 1 (fun z => absurd z (by omega)) (fun _ => br_t rfl ⟨pk_in _ 1728 (by omega) x1, ?_⟩) (qp_at 3 h11))
  refine And.intro (pk_in 1 32 (by decide) (by decide)) (nm_r (qp_uv 1 (qp_at _ rfl x1) (by decide)) (nm_r (e' := nI 2) (by decide) ?_))
  exact And.intro (pk_in 3 12 (by decide)) (pk_le 2 2 (fun _ => ⟨pk_in 0 8 (by decide), nm_r (qp_uv 0 (nI_1 i)) hp⟩) (fun z => absurd z (by omega)) (qp_at 3 h11))
theorem qp_fetchSE {post : Int32 → St2 → Prop} {tb nd cl mp wd nr lo rr rz : Int32} {a1 a2 a3 a4 a5 a6 a7 a8 a9 a10 a11 a12 a13 a14 a15 a16 a17 a18 a19 a20 a21 a22 a23 a24 a25 a26 a27 a28 a29 a30 : Nat → Int32} {N' l' m' : Int32} (m : Nat) (hm : m ≤ 2) (h22 : a22 0 = nI m) (h4 : a4 3 = 7) (h26 : a26 3 = nI m)
    (hp : post 0 (tb, nd, cl, mp, wd, nr, lo, rr, rz, a1, a2, a3, a4, a5, a6, a7, a8, a9, a10, a11, a12, a13, a14, a15, a16, a17, a18, a19, a20, a21, a22, a23, a24, a25, a26, a27, a28, a29, a30)) (hN' : N' = nI 3 := by rfl) (hl' : l' = 0 := by rfl) : wpX_fetch post (tb, nd, cl, mp, wd, nr, lo, rr, rz, a1, a2, a3, a4, a5, a6, a7, a8, a9, a10, a11, a12, a13, a14, a15, a16, a17, a18, a19, a20, a21, a22, a23, a24, a25, a26, a27, a28, a29, a30) l' N' m' := by
  subst hN' hl'
  unfold wpX_fetch
  refine ⟨pk_in 0 8 (by decide), nm_r (e' := nI m) (qp_at 0 h22) ⟨pk_in 3 12 (by decide), br_f (qp_ne 3 h4 (by decide)) ?_⟩⟩
  refine br_t rfl ⟨pk_in 3 12 (by decide), ?_⟩
  exact pk_lt m m (fun z => absurd z (by omega)) (fun _ => hp) rfl (qp_at 3 h26)
/-- KEEP at node 2: the registers 0 and 1 go to row e; what chain does is left to the caller -/
theorem qp_keep {post : St2 → Prop} {tb nd cl mp wd nr lo rr rz : Int32} {a1 a2 a3 a4 a5 a6 a7 a8 a9 a10 a11 a12 a13 a14 a15 a16 a17 a18 a19 a20 a21 a22 a23 a24 a25 a26 a27 a28 a29 a30 : Nat → Int32} {N' w' m' : Int32} (e : Nat) (he : e < 2) (h10 : a10 2 = 0) (h26 : a26 2 = nI e)
    (H : ∀ Q : St2 → Prop, (∀ u, post u → Q u) → wpX_chain Q (tb, nd, cl, mp, wd, nr, lo, rr, rz, a1, a2, a3, a4, a5, a6, a7, a8, a9, a10, a11, a12, a13, a14, a15, a16, a17, a18, a19, a20, a21, a22, a23, a24, upd (upd a25 (288 + e * 6) (a21 0)) (288 + e * 6 + 1) (a21 1), a26, a27, a28, a29, a30) (nI 2) (nI e) (nI (qp_bk (a21 0))))
    (hN' : N' = nI 2 := by rfl) (hw' : w' = nI 2 := by rfl) (hm' : m' = 32 := by rfl) : wpX_keep post (tb, nd, cl, mp, wd, nr, lo, rr, rz, a1, a2, a3, a4, a5, a6, a7, a8, a9, a10, a11, a12, a13, a14, a15, a16, a17, a18, a19, a20, a21, a22, a23, a24, a25, a26, a27, a28, a29, a30) N' w' m' := by
  subst hN' hw' hm'
  have e10 : (32 : Int32) >>> ((5 * (a10 (nI 2).toNatClampNeg)) &&& 31) &&& 31 = nI 0 := by
    rw [show a10 (nI 2).toNatClampNeg = 0 from qp_at 2 h10]
    decide
  have x0 : nI 2 * 144 + nI e * 6 + nI 0 = nI (288 + e * 6 + 0) := qp_i3 2 e 0
  have x1 : nI 2 * 144 + nI e * 6 + nI 1 = nI (288 + e * 6 + 1) := qp_i3 2 e 1
  unfold wpX_keep
  refine ⟨pk_in 2 12 (by decide), pk_in 0 32 (by decide) e10, nm_r (e' := a21 0) (qp_at 0 rfl e10) (qp_bucket ?_)⟩
  unfold wpX_append
  refine ⟨pk_in 2 12 (by decide), nm_r (e' := nI e) (qp_at 2 h26) (pk_lt e 24 (fun _ => ⟨3, ?_⟩) (fun z => absurd z (by omega)))⟩
  refine pk_le 2 0 (fun z => absurd z (by omega)) (fun _ => ⟨pk_in 0 32 (by decide) (by decide), pk_in _ 1728 (by omega) x0, nm_r (qp_uv _ (qp_at 0 rfl (by decide)) x0) (nm_r (e' := nI 1) (by decide) ?_)⟩)
  refine pk_le 2 1 (fun z => absurd z (by omega)) (fun _ => ⟨pk_in 1 32 (by decide) (by decide), pk_in _ 1728 (by omega) x1, nm_r (qp_uv _ (qp_at 1 rfl (by decide)) x1) (nm_r (e' := nI 2) (by decide) ?_)⟩)
  refine pk_le 2 2 (fun _ => H _ ?_) (fun z => absurd z (by omega))
  intro u hu
  obtain ⟨tb, nd, cl, mp, wd, nr, lo, rr, rz, a1, a2, a3, a4, a5, a6, a7, a8, a9, a10, a11, a12, a13, a14, a15, a16, a17, a18, a19, a20, a21, a22, a23, a24, a25, a26, a27, a28, a29, a30⟩ := u
  exact hu
theorem qp_probe {post : St2 → Prop} {tb nd cl mp wd nr lo rr rz : Int32} {a1 a2 a3 a4 a5 a6 a7 a8 a9 a10 a11 a12 a13 a14 a15 a16 a17 a18 a19 a20 a21 a22 a23 a24 a25 a26 a27 a28 a29 a30 : Nat → Int32} {l' N' k : Int32} (hp : post (tb, nd, cl, mp, wd, nr, lo, rr, rz, a1, a2, a3, a4, a5, a6, a7, a8, a9, a10, a11, a12, a13, a14, a15, a16, a17, a18, a19, a20, a21, upd a22 1 (a27 (16 + qp_bk k)), upd a23 1 k, upd a24 1 0, a25, a26, a27, a28, a29, a30))
    (hl' : l' = nI 1 := by rfl) (hN' : N' = nI 2 := by rfl) : wpX_probe post (tb, nd, cl, mp, wd, nr, lo, rr, rz, a1, a2, a3, a4, a5, a6, a7, a8, a9, a10, a11, a12, a13, a14, a15, a16, a17, a18, a19, a20, a21, a22, a23, a24, a25, a26, a27, a28, a29, a30) l' N' k := by
  subst hl' hN'
  have hb := qp_bk8 k
  have x8 : nI 2 * 8 + nI (qp_bk k) = nI (16 + qp_bk k) := qp_i8 2 _
  unfold wpX_probe
  exact qp_bucket ⟨pk_in 1 8 (by decide), nm_r (qp_up 1) ⟨pk_in _ 96 (by omega) x8, pk_in 1 8 (by decide), nm_r (qp_uv 1 (qp_at _ rfl x8)) ⟨pk_in 1 8 (by decide), nm_r (qp_up 1) hp⟩⟩⟩
theorem qp_matchH {post : Int32 → St2 → Prop} {tb nd cl mp wd nr lo rr rz : Int32} {a1 a2 a3 a4 a5 a6 a7 a8 a9 a10 a11 a12 a13 a14 a15 a16 a17 a18 a19 a20 a21 a22 a23 a24 a25 a26 a27 a28 a29 a30 : Nat → Int32} {l' N' m' : Int32} (e : Nat) (he : e < 2) (h6 : a6 2 = 1) (h10 : a10 2 = 0) (h11 : a11 1 = 2)
    (hs : ∀ Q : Int32 → Prop, Q (nI e) → wpX_seek Q (tb, nd, cl, mp, wd, nr, lo, rr, rz, a1, a2, a3, a4, a5, a6, a7, a8, a9, a10, a11, a12, a13, a14, a15, a16, a17, a18, a19, a20, a21, a22, a23, a24, a25, a26, a27, a28, a29, a30) (nI 2) 0 (a23 1) (a22 1))
    (hp : post 1 (tb, nd, cl, mp, wd, nr, lo, rr, rz, a1, a2, a3, a4, a5, a6, a7, a8, a9, a10, a11, a12, a13, a14, a15, a16, a17, a18, a19, a20, upd (upd a21 2 (a25 (288 + e * 6))) 3 (a25 (288 + e * 6 + 1)), upd a22 1 (a29 (48 + e)), a23, upd a24 1 1, a25, a26, a27, a28, a29, a30))
    (hl' : l' = nI 1 := by rfl) (hN' : N' = nI 2 := by rfl) (hm' : m' = 98 := by rfl) : wpX_match post (tb, nd, cl, mp, wd, nr, lo, rr, rz, a1, a2, a3, a4, a5, a6, a7, a8, a9, a10, a11, a12, a13, a14, a15, a16, a17, a18, a19, a20, a21, a22, a23, a24, a25, a26, a27, a28, a29, a30) l' N' m' := by
  subst hl' hN' hm'
  have e6 : a6 (nI 2).toNatClampNeg = nI 1 := qp_at 2 h6
  have x0 : nI 2 * 144 + nI e * 6 + nI 0 = nI (288 + e * 6 + 0) := qp_i3 2 e 0
  have x1 : nI 2 * 144 + nI e * 6 + nI 1 = nI (288 + e * 6 + 1) := qp_i3 2 e 1
  have x24 : nI 2 * 24 + nI e = nI (48 + e) := qp_i24 2 e
  unfold wpX_match
  refine ⟨pk_in 2 12 (by decide), pk_in 1 8 (by decide), pk_in 1 8 (by decide), ?_⟩
  rw [show a10 (nI 2).toNatClampNeg = 0 from qp_at 2 h10, show a23 (nI 1).toNatClampNeg = a23 1 from qp_at 1 rfl, show a22 (nI 1).toNatClampNeg = a22 1 from qp_at 1 rfl]
  refine hs _ ⟨pk_in 2 12 (by decide), qp_inT 2 1 12 h6 (by decide), nm_r (e' := nI 2) (qp_at 1 h11 e6) (br_f (nI_pos (by omega)) ⟨3, ?_⟩)⟩
  refine pk_le 2 0 (fun z => absurd z (by omega)) (fun _ => ⟨pk_in _ 1728 (by omega) x0, pk_in 2 32 (by decide) (by decide), nm_r (qp_uv 2 (qp_at _ rfl x0) (by decide)) (nm_r (e' := nI 1) (by decide) ?_)⟩)
  refine pk_le 2 1 (fun z => absurd z (by omega)) (fun _ => ⟨pk_in _ 1728 (by omega) x1, pk_in 3 32 (by decide) (by decide), nm_r (qp_uv 3 (qp_at _ rfl x1) (by decide)) (nm_r (e' := nI 2) (by decide) ?_)⟩)
  exact pk_le 2 2 (fun _ => ⟨pk_in _ 288 (by omega) x24, pk_in 1 8 (by decide), nm_r (qp_uv 1 (qp_at _ rfl x24)) ⟨pk_in 1 8 (by decide), nm_r (qp_up 1) hp⟩⟩) (fun z => absurd z (by omega))
theorem qp_matchN {post : Int32 → St2 → Prop} {tb nd cl mp wd nr lo rr rz : Int32} {a1 a2 a3 a4 a5 a6 a7 a8 a9 a10 a11 a12 a13 a14 a15 a16 a17 a18 a19 a20 a21 a22 a23 a24 a25 a26 a27 a28 a29 a30 : Nat → Int32} {l' N' m' : Int32} (h6 : a6 2 = 1) (h8 : a8 2 = 0) (h10 : a10 2 = 0) (h11 : a11 1 = 2)
    (hs : ∀ Q : Int32 → Prop, Q (-1) → wpX_seek Q (tb, nd, cl, mp, wd, nr, lo, rr, rz, a1, a2, a3, a4, a5, a6, a7, a8, a9, a10, a11, a12, a13, a14, a15, a16, a17, a18, a19, a20, a21, a22, a23, a24, a25, a26, a27, a28, a29, a30) (nI 2) 0 (a23 1) (a22 1))
    (hp : post 0 (tb, nd, cl, mp, wd, nr, lo, rr, rz, a1, a2, a3, a4, a5, a6, a7, a8, a9, a10, a11, a12, a13, a14, a15, a16, a17, a18, a19, a20, a21, upd a22 1 (-1), a23, a24, a25, a26, a27, a28, a29, a30))
    (hl' : l' = nI 1 := by rfl) (hN' : N' = nI 2 := by rfl) : wpX_match post (tb, nd, cl, mp, wd, nr, lo, rr, rz, a1, a2, a3, a4, a5, a6, a7, a8, a9, a10, a11, a12, a13, a14, a15, a16, a17, a18, a19, a20, a21, a22, a23, a24, a25, a26, a27, a28, a29, a30) l' N' m' := by
  subst hl' hN'
  have e6 : a6 (nI 2).toNatClampNeg = nI 1 := qp_at 2 h6
  unfold wpX_match
  refine ⟨pk_in 2 12 (by decide), pk_in 1 8 (by decide), pk_in 1 8 (by decide), ?_⟩
  rw [show a10 (nI 2).toNatClampNeg = 0 from qp_at 2 h10, show a23 (nI 1).toNatClampNeg = a23 1 from qp_at 1 rfl, show a22 (nI 1).toNatClampNeg = a22 1 from qp_at 1 rfl]
  exact hs _ ⟨pk_in 2 12 (by decide), qp_inT 2 1 12 h6 (by decide), nm_r (e' := nI 2) (qp_at 1 h11 e6) (br_t (by decide) ⟨pk_in 1 8 (by decide), nm_r (qp_up 1) ⟨pk_in 2 12 (by decide), br_f (qp_ne 2 h8 (by decide)) hp⟩⟩)⟩
theorem qp_emit {post : St2 → Prop} {tb nd cl mp wd nr lo rr rz : Int32} {a1 a2 a3 a4 a5 a6 a7 a8 a9 a10 a11 a12 a13 a14 a15 a16 a17 a18 a19 a20 a21 a22 a23 a24 a25 a26 a27 a28 a29 a30 : Nat → Int32} {w' m' : Int32} (n : Nat) (hn : n < 2) (hp : post (tb, nd, cl, mp, wd, nr, lo, nI (n + 1), rz, a1, a2, a3, a4, a5, a6, a7, a8, a9, a10, a11, a12, a13, a14, a15, a16, a17, a18, a19, a20, a21, a22, a23, a24, a25, a26, a27, a28, a29, upd (upd a30 (n * 6) (a21 0)) (n * 6 + 1) (a21 1)))
    (hr : rr = nI n) (hw' : w' = nI 2 := by rfl) (hm' : m' = 32 := by rfl) : wpX_emitRow post (tb, nd, cl, mp, wd, nr, lo, rr, rz, a1, a2, a3, a4, a5, a6, a7, a8, a9, a10, a11, a12, a13, a14, a15, a16, a17, a18, a19, a20, a21, a22, a23, a24, a25, a26, a27, a28, a29, a30) w' m' := by
  subst hr hw' hm'
  have x0 : nI n * 6 + nI 0 = nI (n * 6 + 0) := by
    show nI n * nI 6 + nI 0 = nI (n * 6 + 0)
    rw [pk_mul, nI_add]
  have x1 : nI n * 6 + nI 1 = nI (n * 6 + 1) := by
    show nI n * nI 6 + nI 1 = nI (n * 6 + 1)
    rw [pk_mul, nI_add]
  unfold wpX_emitRow
  refine pk_lt n 24 (fun _ => ⟨3, ?_⟩) (fun z => absurd z (by omega))
  refine pk_le 2 0 (fun z => absurd z (by omega)) (fun _ => ⟨pk_in 0 32 (by decide) (by decide), pk_in _ 144 (by omega) x0, nm_r (qp_uv _ (qp_at 0 rfl (by decide)) x0) (nm_r (e' := nI 1) (by decide) ?_)⟩)
  refine pk_le 2 1 (fun z => absurd z (by omega)) (fun _ => ⟨pk_in 1 32 (by decide) (by decide), pk_in _ 144 (by omega) x1, nm_r (qp_uv _ (qp_at 1 rfl (by decide)) x1) (nm_r (e' := nI 2) (by decide) ?_)⟩)
  exact pk_le 2 2 (fun _ => nm_r (nI_1 n) hp) (fun z => absurd z (by omega))
/-! fold: the groups so far -/
def qp_G (G : List (Int32 × Int32)) (a25 a26 a27 a28 a29 : Nat → Int32) : Prop := match G with
  | [] => qp_R0 3 a26 a27
  | [(x, s)] => qp_R1 3 x a25 a26 a27 a28 a29 ∧ a25 433 = s
  | [(x, s), (y, t)] => qp_R2 3 x y a25 a26 a27 a29 ∧ a25 433 = s ∧ a25 439 = t
  | _ => False
def qp_gf (G : List (Int32 × Int32)) (k w : Int32) : List (Int32 × Int32) := match G with
  | [] => [(k, w)]
  | (x, s) :: t => if x = k then (x, s + w) :: t else (x, s) :: qp_gf t k w
theorem qp_fold {post : St2 → Prop} {tb nd cl mp wd nr lo rr rz : Int32} {a1 a2 a3 a4 a5 a6 a7 a8 a9 a10 a11 a12 a13 a14 a15 a16 a17 a18 a19 a20 a21 a22 a23 a24 a25 a26 a27 a28 a29 a30 : Nat → Int32} {N' k w : Int32} (G : List (Int32 × Int32)) (h9 : a9 3 = 1) (hG : qp_G G a25 a26 a27 a28 a29) (hl : (qp_gf G k w).length ≤ 2)
    (hp : ∀ b25 b26 b27 b28 b29 : Nat → Int32, qp_G (qp_gf G k w) b25 b26 b27 b28 b29 → (∀ j, j < 432 → b25 j = a25 j) → qp_Fr 3 a26 a27 a29 b26 b27 b29 → post (tb, nd, cl, mp, wd, nr, lo, rr, rz, a1, a2, a3, a4, a5, a6, a7, a8, a9, a10, a11, a12, a13, a14, a15, a16, a17, a18, a19, a20, a21, a22, a23, a24, b25, b26, b27, b28, b29, a30))
    (hN' : N' = nI 3 := by rfl) : wpX_fold post (tb, nd, cl, mp, wd, nr, lo, rr, rz, a1, a2, a3, a4, a5, a6, a7, a8, a9, a10, a11, a12, a13, a14, a15, a16, a17, a18, a19, a20, a21, a22, a23, a24, a25, a26, a27, a28, a29, a30) N' k w := by
  subst hN'
  have hb := qp_bk8 k
  have x8 : nI 3 * 8 + nI (qp_bk k) = nI (24 + qp_bk k) := qp_i8 3 _
  have s8 : a27 (nI 3 * 8 + nI (qp_bk k)).toNatClampNeg = a27 (24 + qp_bk k) := qp_at _ rfl x8
  have fr0 : qp_Fr 3 a26 a27 a29 a26 a27 a29 := ⟨fun _ _ => rfl, fun _ _ => rfl, fun _ _ => rfl⟩
  unfold wpX_fold
  refine qp_bucket ⟨pk_in _ 96 (by omega) x8, ?_⟩
  match G, hG, hl, hp with
  | [], R, hl, hp =>
    have R : qp_R0 3 a26 a27 := R
    refine qp_look0 3 R ?_ s8
    refine br_f (by decide) ⟨pk_in 3 12 (by decide), nm_r (e' := nI 0) (qp_at 3 R.1) (br_t (by decide) ⟨pk_in 432 1728 (by decide) (by decide), nm_r (qp_up 432 (by decide)) ⟨pk_in 3 12 (by decide), br_f (qp_ne 3 h9 (by decide)) ?_⟩⟩)⟩
    refine And.intro (pk_in 433 1728 (by decide) (by decide)) (nm_r (qp_up 433 (by decide)) ?_)
    refine qp_chain0 3 k (by decide) R rfl ?_ rfl rfl rfl
    intro b26 b27 b28 b29 R1 F
    exact hp _ _ _ _ _ ⟨R1, rfl⟩ (fun j hj => by rw [pk_un (by omega), pk_un (by omega)]) F
  | [(x, s)], ⟨R, hs⟩, hl, hp =>
    refine qp_look1 3 (by decide) R ?_ rfl s8
    by_cases g : x = k
    · rw [if_pos g]
      have eg : qp_gf [(x, s)] k w = [(x, s + w)] := by simp [qp_gf, g]
      rw [eg] at hp
      refine br_t (by decide) (nm_r (e' := nI 433) (by decide) ⟨pk_in 433 1728 (by decide), nm_r (e' := s) (qp_at 433 hs) ⟨pk_in 3 12 (by decide), br_f (qp_ne 3 h9 (by decide)) ⟨pk_in 3 12 (by decide), br_t (qp_at 3 h9) ⟨pk_in 433 1728 (by decide), nm_r (qp_up 433) ?_⟩⟩⟩⟩)
      obtain ⟨r1, r2, r3, r4, r5⟩ := R
      exact hp _ _ _ _ _ ⟨⟨r1, r2, r3, r4, r5⟩, rfl⟩ (fun j hj => by rw [pk_un (by omega)]) fr0
    · rw [if_neg g]
      have eg : qp_gf [(x, s)] k w = [(x, s), (k, w)] := by simp [qp_gf, g]
      rw [eg] at hp
      refine br_f (by decide) ⟨pk_in 3 12 (by decide), nm_r (e' := nI 1) (qp_at 3 R.1) (br_t (by decide) ⟨pk_in 438 1728 (by decide) (by decide), nm_r (qp_up 438 (by decide)) ⟨pk_in 3 12 (by decide), br_f (qp_ne 3 h9 (by decide)) ?_⟩⟩)⟩
      refine And.intro (pk_in 439 1728 (by decide) (by decide)) (nm_r (qp_up 439 (by decide)) ?_)
      obtain ⟨r1, r2, r3, r4, r5⟩ := R
      refine qp_chain1 3 x k (by decide) ⟨r1, r2, r3, r4, r5⟩ rfl ?_ rfl rfl rfl
      intro b26 b27 b28 b29 R2 F
      exact hp _ _ _ _ _ ⟨R2, hs, rfl⟩ (fun j hj => by rw [pk_un (by omega), pk_un (by omega)]) F
  | [(x, s), (y, t)], ⟨R, hs, ht⟩, hl, hp =>
    refine qp_look2 3 (by decide) R ?_ rfl s8
    obtain ⟨r1, r2, r3, r4, r5, r6⟩ := R
    by_cases g : x = k
    · rw [if_pos g]
      have eg : qp_gf [(x, s), (y, t)] k w = [(x, s + w), (y, t)] := by simp [qp_gf, g]
      rw [eg] at hp
      refine br_t (by decide) (nm_r (e' := nI 433) (by decide) ⟨pk_in 433 1728 (by decide), nm_r (e' := s) (qp_at 433 hs) ⟨pk_in 3 12 (by decide), br_f (qp_ne 3 h9 (by decide)) ⟨pk_in 3 12 (by decide), br_t (qp_at 3 h9) ⟨pk_in 433 1728 (by decide), nm_r (qp_up 433) ?_⟩⟩⟩⟩)
      exact hp _ _ _ _ _ ⟨⟨r1, r2, r3, r4, r5, r6⟩, rfl, ht⟩ (fun j hj => by rw [pk_un (by omega)]) fr0
    · rw [if_neg g]
      by_cases g2 : y = k
      · rw [if_pos g2]
        have eg : qp_gf [(x, s), (y, t)] k w = [(x, s), (y, t + w)] := by simp [qp_gf, g, g2]
        rw [eg] at hp
        refine br_t (by decide) (nm_r (e' := nI 439) (by decide) ⟨pk_in 439 1728 (by decide), nm_r (e' := t) (qp_at 439 ht) ⟨pk_in 3 12 (by decide), br_f (qp_ne 3 h9 (by decide)) ⟨pk_in 3 12 (by decide), br_t (qp_at 3 h9) ⟨pk_in 439 1728 (by decide), nm_r (qp_up 439) ?_⟩⟩⟩⟩)
        exact hp _ _ _ _ _ ⟨⟨r1, r2, r3, r4, r5, r6⟩, hs, rfl⟩ (fun j hj => by rw [pk_un (by omega)]) fr0
      · exfalso
        have eg : qp_gf [(x, s), (y, t)] k w = [(x, s), (y, t), (k, w)] := by simp [qp_gf, g, g2]
        rw [eg] at hl
        exact absurd hl (by simp)
  | _ :: _ :: _ :: _, h, _, _ => exact False.elim h
end
section
/-! one operation -/
theorem qp_336t {Q : Int32 → St2 → Prop} {tb nd cl mp wd nr lo rr rz : Int32} {a1 a2 a3 a4 a5 a6 a7 a8 a9 a10 a11 a12 a13 a14 a15 a16 a17 a18 a19 a20 a21 a22 a23 a24 a25 a26 a27 a28 a29 a30 : Nat → Int32} {r : Int32} (pc : Nat) (hr : ¬ r = 0) (hp : Q (nI (pc + 1)) (tb, nd, cl, mp, wd, nr, lo, rr, rz, a1, a2, a3, a4, a5, a6, a7, a8, a9, a10, a11, a12, a13, a14, a15, a16, a17, a18, a19, a20, a21, a22, a23, a24, a25, a26, a27, a28, a29, a30)) : wX_perform_336 Q (nI pc) r tb nd cl mp wd nr lo rr rz a1 a2 a3 a4 a5 a6 a7 a8 a9 a10 a11 a12 a13 a14 a15 a16 a17 a18 a19 a20 a21 a22 a23 a24 a25 a26 a27 a28 a29 a30 := by
  unfold wX_perform_336
  refine br_f hr ?_
  rw [nI_1]
  exact hp
theorem qp_336f {Q : Int32 → St2 → Prop} {tb nd cl mp wd nr lo rr rz : Int32} {a1 a2 a3 a4 a5 a6 a7 a8 a9 a10 a11 a12 a13 a14 a15 a16 a17 a18 a19 a20 a21 a22 a23 a24 a25 a26 a27 a28 a29 a30 : Nat → Int32} (pc d : Nat) (hpc : pc < 16) (hd : a18 pc = nI d) (hp : Q (nI d) (tb, nd, cl, mp, wd, nr, lo, rr, rz, a1, a2, a3, a4, a5, a6, a7, a8, a9, a10, a11, a12, a13, a14, a15, a16, a17, a18, a19, a20, a21, a22, a23, a24, a25, a26, a27, a28, a29, a30)) : wX_perform_336 Q (nI pc) 0 tb nd cl mp wd nr lo rr rz a1 a2 a3 a4 a5 a6 a7 a8 a9 a10 a11 a12 a13 a14 a15 a16 a17 a18 a19 a20 a21 a22 a23 a24 a25 a26 a27 a28 a29 a30 := by
  unfold wX_perform_336
  refine br_t rfl ⟨pk_in pc 192 (by omega), ?_⟩
  rw [nI_clamp (show pc < 2 ^ 31 by omega), hd]
  exact hp
theorem qp_pfO {Q : Int32 → St2 → Prop} {tb nd cl mp wd nr lo rr rz : Int32} {a1 a2 a3 a4 a5 a6 a7 a8 a9 a10 a11 a12 a13 a14 a15 a16 a17 a18 a19 a20 a21 a22 a23 a24 a25 a26 a27 a28 a29 a30 : Nat → Int32} (pc : Nat) (hpc : pc < 16) (h14 : a14 pc = 1) (h15 : a15 pc = 0) (hp : Q (nI (pc + 1)) (tb, nd, cl, mp, wd, nr, lo, rr, rz, a1, a2, a3, a4, a5, a6, a7, a8, a9, a10, a11, a12, a13, a14, a15, a16, a17, a18, a19, a20, a21, upd a22 0 0, a23, a24, a25, a26, a27, a28, a29, a30)) : wpX_perform Q (tb, nd, cl, mp, wd, nr, lo, rr, rz, a1, a2, a3, a4, a5, a6, a7, a8, a9, a10, a11, a12, a13, a14, a15, a16, a17, a18, a19, a20, a21, a22, a23, a24, a25, a26, a27, a28, a29, a30) (nI pc) := by
  unfold wpX_perform
  refine ⟨pk_in pc 192 (by omega), nm_r (e' := 0) (qp_at pc h15) ⟨pk_in pc 192 (by omega), nm_e ⟨pk_in pc 192 (by omega), nm_e ⟨pk_in pc 192 (by omega), nm_r (e' := 1) (qp_at pc h14) (br_f (by decide) (br_f (by decide) (br_t rfl ?_)))⟩⟩⟩⟩
  exact ⟨pk_in 0 8 (by decide), nm_r (qp_up 0) (qp_336t pc (by decide) hp)⟩
theorem qp_pfJ {Q : Int32 → St2 → Prop} {tb nd cl mp wd nr lo rr rz : Int32} {a1 a2 a3 a4 a5 a6 a7 a8 a9 a10 a11 a12 a13 a14 a15 a16 a17 a18 a19 a20 a21 a22 a23 a24 a25 a26 a27 a28 a29 a30 : Nat → Int32} (pc : Nat) (hpc : pc < 16) (h14 : a14 pc = 15) (d : Nat) (hd : a18 pc = nI d) (hp : Q (nI d) (tb, nd, cl, mp, wd, nr, lo, rr, rz, a1, a2, a3, a4, a5, a6, a7, a8, a9, a10, a11, a12, a13, a14, a15, a16, a17, a18, a19, a20, a21, a22, a23, a24, a25, a26, a27, a28, a29, a30)) : wpX_perform Q (tb, nd, cl, mp, wd, nr, lo, rr, rz, a1, a2, a3, a4, a5, a6, a7, a8, a9, a10, a11, a12, a13, a14, a15, a16, a17, a18, a19, a20, a21, a22, a23, a24, a25, a26, a27, a28, a29, a30) (nI pc) := by
  unfold wpX_perform
  refine ⟨pk_in pc 192 (by omega), nm_e ⟨pk_in pc 192 (by omega), nm_e ⟨pk_in pc 192 (by omega), nm_e ⟨pk_in pc 192 (by omega), nm_r (e' := 15) (qp_at pc h14) (br_f (by decide) (br_t (by decide) ?_))⟩⟩⟩⟩
  exact qp_336f pc d hpc hd hp
theorem qp_pfFT {Q : Int32 → St2 → Prop} {tb nd cl mp wd nr lo rr rz : Int32} {a1 a2 a3 a4 a5 a6 a7 a8 a9 a10 a11 a12 a13 a14 a15 a16 a17 a18 a19 a20 a21 a22 a23 a24 a25 a26 a27 a28 a29 a30 : Nat → Int32} (pc N : Nat) (hpc : pc < 16) (h14 : a14 pc = 2) (h15 : a15 pc = 0) (h16 : a16 pc = nI N) (h17 : a17 pc = 32) (t i m : Nat) (hN : N < 12) (ht : t < 4) (hm : m ≤ 10) (hi : i < m) (h22 : a22 0 = nI i) (h4 : a4 N = 0) (h8 : a8 N = nI t) (h2 : a2 t = nI m) (h11 : a11 N = 2)
    (hp : Q (nI (pc + 1)) (tb, nd, cl, mp, wd, nr, lo, rr, rz, a1, a2, a3, a4, a5, a6, a7, a8, a9, a10, a11, a12, a13, a14, a15, a16, a17, a18, a19, a20, upd (upd a21 0 (a3 (t * 30 + i * 3))) 1 (a3 (t * 30 + i * 3 + 1)), upd a22 0 (nI (i + 1)), a23, a24, a25, a26, a27, a28, a29, a30)) : wpX_perform Q (tb, nd, cl, mp, wd, nr, lo, rr, rz, a1, a2, a3, a4, a5, a6, a7, a8, a9, a10, a11, a12, a13, a14, a15, a16, a17, a18, a19, a20, a21, a22, a23, a24, a25, a26, a27, a28, a29, a30) (nI pc) := by
  unfold wpX_perform
  refine ⟨pk_in pc 192 (by omega), nm_r (e' := 0) (qp_at pc h15) ⟨pk_in pc 192 (by omega), nm_r (e' := nI N) (qp_at pc h16) ⟨pk_in pc 192 (by omega), nm_r (e' := 32) (qp_at pc h17) ⟨pk_in pc 192 (by omega), nm_r (e' := 2) (qp_at pc h14) (br_f (by decide) (br_f (by decide) (br_f (by decide) (br_t rfl ?_))))⟩⟩⟩⟩
  refine qp_fetchT N t i m hN ht hm hi h22 h4 h8 h2 h11 ?_
  exact qp_336t pc (by decide) hp
theorem qp_pfFTE {Q : Int32 → St2 → Prop} {tb nd cl mp wd nr lo rr rz : Int32} {a1 a2 a3 a4 a5 a6 a7 a8 a9 a10 a11 a12 a13 a14 a15 a16 a17 a18 a19 a20 a21 a22 a23 a24 a25 a26 a27 a28 a29 a30 : Nat → Int32} (pc N : Nat) (hpc : pc < 16) (h14 : a14 pc = 2) (h15 : a15 pc = 0) (h16 : a16 pc = nI N) (t m d : Nat) (hN : N < 12) (ht : t < 4) (hm : m ≤ 10) (h22 : a22 0 = nI m) (h4 : a4 N = 0) (h8 : a8 N = nI t) (h2 : a2 t = nI m)
    (hd : a18 pc = nI d) (hp : Q (nI d) (tb, nd, cl, mp, wd, nr, lo, rr, rz, a1, a2, a3, a4, a5, a6, a7, a8, a9, a10, a11, a12, a13, a14, a15, a16, a17, a18, a19, a20, a21, a22, a23, a24, a25, a26, a27, a28, a29, a30)) : wpX_perform Q (tb, nd, cl, mp, wd, nr, lo, rr, rz, a1, a2, a3, a4, a5, a6, a7, a8, a9, a10, a11, a12, a13, a14, a15, a16, a17, a18, a19, a20, a21, a22, a23, a24, a25, a26, a27, a28, a29, a30) (nI pc) := by
  unfold wpX_perform
  refine ⟨pk_in pc 192 (by omega), nm_r (e' := 0) (qp_at pc h15) ⟨pk_in pc 192 (by omega), nm_r (e' := nI N) (qp_at pc h16) ⟨pk_in pc 192 (by omega), nm_e ⟨pk_in pc 192 (by omega), nm_r (e' := 2) (qp_at pc h14) (br_f (by decide) (br_f (by decide) (br_f (by decide) (br_t rfl ?_))))⟩⟩⟩⟩
  refine qp_fetchTE N t m hN ht hm h22 h4 h8 h2 ?_
  exact qp_336f pc d hpc hd hp
theorem qp_pfFS {Q : Int32 → St2 → Prop} {tb nd cl mp wd nr lo rr rz : Int32} {a1 a2 a3 a4 a5 a6 a7 a8 a9 a10 a11 a12 a13 a14 a15 a16 a17 a18 a19 a20 a21 a22 a23 a24 a25 a26 a27 a28 a29 a30 : Nat → Int32} (pc : Nat) (hpc : pc < 16) (h14 : a14 pc = 2) (h15 : a15 pc = 0) (h16 : a16 pc = nI 3) (h17 : a17 pc = 32) (i m : Nat) (hm : m ≤ 2) (hi : i < m) (h22 : a22 0 = nI i) (h4 : a4 3 = 7) (h26 : a26 3 = nI m) (h11 : a11 3 = 2)
    (hp : Q (nI (pc + 1)) (tb, nd, cl, mp, wd, nr, lo, rr, rz, a1, a2, a3, a4, a5, a6, a7, a8, a9, a10, a11, a12, a13, a14, a15, a16, a17, a18, a19, a20, upd (upd a21 0 (a25 (432 + i * 6))) 1 (a25 (432 + i * 6 + 1)), upd a22 0 (nI (i + 1)), a23, a24, a25, a26, a27, a28, a29, a30)) : wpX_perform Q (tb, nd, cl, mp, wd, nr, lo, rr, rz, a1, a2, a3, a4, a5, a6, a7, a8, a9, a10, a11, a12, a13, a14, a15, a16, a17, a18, a19, a20, a21, a22, a23, a24, a25, a26, a27, a28, a29, a30) (nI pc) := by
  unfold wpX_perform
  refine ⟨pk_in pc 192 (by omega), nm_r (e' := 0) (qp_at pc h15) ⟨pk_in pc 192 (by omega), nm_r (e' := nI 3) (qp_at pc h16) ⟨pk_in pc 192 (by omega), nm_r (e' := 32) (qp_at pc h17) ⟨pk_in pc 192 (by omega), nm_r (e' := 2) (qp_at pc h14) (br_f (by decide) (br_f (by decide) (br_f (by decide) (br_t rfl ?_))))⟩⟩⟩⟩
  refine qp_fetchS i m hm hi h22 h4 h26 h11 ?_
  exact qp_336t pc (by decide) hp
theorem qp_pfFSE {Q : Int32 → St2 → Prop} {tb nd cl mp wd nr lo rr rz : Int32} {a1 a2 a3 a4 a5 a6 a7 a8 a9 a10 a11 a12 a13 a14 a15 a16 a17 a18 a19 a20 a21 a22 a23 a24 a25 a26 a27 a28 a29 a30 : Nat → Int32} (pc : Nat) (hpc : pc < 16) (h14 : a14 pc = 2) (h15 : a15 pc = 0) (h16 : a16 pc = nI 3) (m d : Nat) (hm : m ≤ 2) (h22 : a22 0 = nI m) (h4 : a4 3 = 7) (h26 : a26 3 = nI m)
    (hd : a18 pc = nI d) (hp : Q (nI d) (tb, nd, cl, mp, wd, nr, lo, rr, rz, a1, a2, a3, a4, a5, a6, a7, a8, a9, a10, a11, a12, a13, a14, a15, a16, a17, a18, a19, a20, a21, a22, a23, a24, a25, a26, a27, a28, a29, a30)) : wpX_perform Q (tb, nd, cl, mp, wd, nr, lo, rr, rz, a1, a2, a3, a4, a5, a6, a7, a8, a9, a10, a11, a12, a13, a14, a15, a16, a17, a18, a19, a20, a21, a22, a23, a24, a25, a26, a27, a28, a29, a30) (nI pc) := by
  unfold wpX_perform
  refine ⟨pk_in pc 192 (by omega), nm_r (e' := 0) (qp_at pc h15) ⟨pk_in pc 192 (by omega), nm_r (e' := nI 3) (qp_at pc h16) ⟨pk_in pc 192 (by omega), nm_e ⟨pk_in pc 192 (by omega), nm_r (e' := 2) (qp_at pc h14) (br_f (by decide) (br_f (by decide) (br_f (by decide) (br_t rfl ?_))))⟩⟩⟩⟩
  refine qp_fetchSE m hm h22 h4 h26 ?_
  exact qp_336f pc d hpc hd hp
theorem qp_pfK {Q : Int32 → St2 → Prop} {tb nd cl mp wd nr lo rr rz : Int32} {a1 a2 a3 a4 a5 a6 a7 a8 a9 a10 a11 a12 a13 a14 a15 a16 a17 a18 a19 a20 a21 a22 a23 a24 a25 a26 a27 a28 a29 a30 : Nat → Int32} (pc : Nat) (hpc : pc < 16) (h14 : a14 pc = 11) (h15 : a15 pc = nI 2) (h16 : a16 pc = nI 2) (h17 : a17 pc = 32) (e : Nat) (he : e < 2) (h10 : a10 2 = 0) (h26 : a26 2 = nI e)
    (H : ∀ Q' : St2 → Prop, (∀ u, Q (nI (pc + 1)) u → Q' u) → wpX_chain Q' (tb, nd, cl, mp, wd, nr, lo, rr, rz, a1, a2, a3, a4, a5, a6, a7, a8, a9, a10, a11, a12, a13, a14, a15, a16, a17, a18, a19, a20, a21, a22, a23, a24, upd (upd a25 (288 + e * 6) (a21 0)) (288 + e * 6 + 1) (a21 1), a26, a27, a28, a29, a30) (nI 2) (nI e) (nI (qp_bk (a21 0)))) : wpX_perform Q (tb, nd, cl, mp, wd, nr, lo, rr, rz, a1, a2, a3, a4, a5, a6, a7, a8, a9, a10, a11, a12, a13, a14, a15, a16, a17, a18, a19, a20, a21, a22, a23, a24, a25, a26, a27, a28, a29, a30) (nI pc) := by
  unfold wpX_perform
  refine ⟨pk_in pc 192 (by omega), nm_r (e' := nI 2) (qp_at pc h15) ⟨pk_in pc 192 (by omega), nm_r (e' := nI 2) (qp_at pc h16) ⟨pk_in pc 192 (by omega), nm_r (e' := 32) (qp_at pc h17) ⟨pk_in pc 192 (by omega), nm_r (e' := 11) (qp_at pc h14) (br_f (by decide) (br_f (by decide) (br_f (by decide) (br_f (by decide) (br_f (by decide) (br_f (by decide) (br_f (by decide) (br_f (by decide) (br_f (by decide) (br_f (by decide) (br_f (by decide) (br_f (by decide) (br_t rfl ?_)))))))))))))⟩⟩⟩⟩
  refine qp_keep e he h10 h26 (fun Q' hQ' => H Q' ?_)
  intro u h
  refine hQ' u ?_
  obtain ⟨tb, nd, cl, mp, wd, nr, lo, rr, rz, a1, a2, a3, a4, a5, a6, a7, a8, a9, a10, a11, a12, a13, a14, a15, a16, a17, a18, a19, a20, a21, a22, a23, a24, a25, a26, a27, a28, a29, a30⟩ := u
  exact qp_336t pc (by decide) h
theorem qp_pfP {Q : Int32 → St2 → Prop} {tb nd cl mp wd nr lo rr rz : Int32} {a1 a2 a3 a4 a5 a6 a7 a8 a9 a10 a11 a12 a13 a14 a15 a16 a17 a18 a19 a20 a21 a22 a23 a24 a25 a26 a27 a28 a29 a30 : Nat → Int32} (pc : Nat) (hpc : pc < 16) (h14 : a14 pc = 6) (h15 : a15 pc = nI 1) (h16 : a16 pc = nI 2) (h17 : a17 pc = nI 0) (k : Int32) (hk : a21 0 = k)
    (hp : Q (nI (pc + 1)) (tb, nd, cl, mp, wd, nr, lo, rr, rz, a1, a2, a3, a4, a5, a6, a7, a8, a9, a10, a11, a12, a13, a14, a15, a16, a17, a18, a19, a20, a21, upd a22 1 (a27 (16 + qp_bk k)), upd a23 1 k, upd a24 1 0, a25, a26, a27, a28, a29, a30)) : wpX_perform Q (tb, nd, cl, mp, wd, nr, lo, rr, rz, a1, a2, a3, a4, a5, a6, a7, a8, a9, a10, a11, a12, a13, a14, a15, a16, a17, a18, a19, a20, a21, a22, a23, a24, a25, a26, a27, a28, a29, a30) (nI pc) := by
  subst hk
  unfold wpX_perform
  refine ⟨pk_in pc 192 (by omega), nm_r (e' := nI 1) (qp_at pc h15) ⟨pk_in pc 192 (by omega), nm_r (e' := nI 2) (qp_at pc h16) ⟨pk_in pc 192 (by omega), nm_r (e' := nI 0) (qp_at pc h17) ⟨pk_in pc 192 (by omega), nm_r (e' := 6) (qp_at pc h14) (br_f (by decide) (br_f (by decide) (br_f (by decide) (br_f (by decide) (br_f (by decide) (br_f (by decide) (br_f (by decide) (br_t rfl ?_))))))))⟩⟩⟩⟩
  refine ⟨pk_in 0 32 (by decide), ?_⟩
  rw [show a21 (nI 0).toNatClampNeg = a21 0 from qp_at 0 rfl]
  refine qp_probe ?_
  exact qp_336t pc (by decide) hp
theorem qp_pfMH {Q : Int32 → St2 → Prop} {tb nd cl mp wd nr lo rr rz : Int32} {a1 a2 a3 a4 a5 a6 a7 a8 a9 a10 a11 a12 a13 a14 a15 a16 a17 a18 a19 a20 a21 a22 a23 a24 a25 a26 a27 a28 a29 a30 : Nat → Int32} (pc : Nat) (hpc : pc < 16) (h14 : a14 pc = 7) (h15 : a15 pc = nI 1) (h16 : a16 pc = nI 2) (h17 : a17 pc = 98) (e : Nat) (he : e < 2) (h6 : a6 2 = 1) (h10 : a10 2 = 0) (h11 : a11 1 = 2)
    (hs : ∀ Q : Int32 → Prop, Q (nI e) → wpX_seek Q (tb, nd, cl, mp, wd, nr, lo, rr, rz, a1, a2, a3, a4, a5, a6, a7, a8, a9, a10, a11, a12, a13, a14, a15, a16, a17, a18, a19, a20, a21, a22, a23, a24, a25, a26, a27, a28, a29, a30) (nI 2) 0 (a23 1) (a22 1))
    (hp : Q (nI (pc + 1)) (tb, nd, cl, mp, wd, nr, lo, rr, rz, a1, a2, a3, a4, a5, a6, a7, a8, a9, a10, a11, a12, a13, a14, a15, a16, a17, a18, a19, a20, upd (upd a21 2 (a25 (288 + e * 6))) 3 (a25 (288 + e * 6 + 1)), upd a22 1 (a29 (48 + e)), a23, upd a24 1 1, a25, a26, a27, a28, a29, a30)) : wpX_perform Q (tb, nd, cl, mp, wd, nr, lo, rr, rz, a1, a2, a3, a4, a5, a6, a7, a8, a9, a10, a11, a12, a13, a14, a15, a16, a17, a18, a19, a20, a21, a22, a23, a24, a25, a26, a27, a28, a29, a30) (nI pc) := by
  unfold wpX_perform
  refine ⟨pk_in pc 192 (by omega), nm_r (e' := nI 1) (qp_at pc h15) ⟨pk_in pc 192 (by omega), nm_r (e' := nI 2) (qp_at pc h16) ⟨pk_in pc 192 (by omega), nm_r (e' := 98) (qp_at pc h17) ⟨pk_in pc 192 (by omega), nm_r (e' := 7) (qp_at pc h14) (br_f (by decide) (br_f (by decide) (br_f (by decide) (br_f (by decide) (br_f (by decide) (br_f (by decide) (br_f (by decide) (br_f (by decide) (br_t rfl ?_)))))))))⟩⟩⟩⟩
  refine qp_matchH e he h6 h10 h11 hs ?_
  exact qp_336t pc (by decide) hp
theorem qp_pfMN {Q : Int32 → St2 → Prop} {tb nd cl mp wd nr lo rr rz : Int32} {a1 a2 a3 a4 a5 a6 a7 a8 a9 a10 a11 a12 a13 a14 a15 a16 a17 a18 a19 a20 a21 a22 a23 a24 a25 a26 a27 a28 a29 a30 : Nat → Int32} (pc : Nat) (hpc : pc < 16) (h14 : a14 pc = 7) (h15 : a15 pc = nI 1) (h16 : a16 pc = nI 2) (d : Nat) (h6 : a6 2 = 1) (h8 : a8 2 = 0) (h10 : a10 2 = 0) (h11 : a11 1 = 2)
    (hs : ∀ Q : Int32 → Prop, Q (-1) → wpX_seek Q (tb, nd, cl, mp, wd, nr, lo, rr, rz, a1, a2, a3, a4, a5, a6, a7, a8, a9, a10, a11, a12, a13, a14, a15, a16, a17, a18, a19, a20, a21, a22, a23, a24, a25, a26, a27, a28, a29, a30) (nI 2) 0 (a23 1) (a22 1)) (hd : a18 pc = nI d)
    (hp : Q (nI d) (tb, nd, cl, mp, wd, nr, lo, rr, rz, a1, a2, a3, a4, a5, a6, a7, a8, a9, a10, a11, a12, a13, a14, a15, a16, a17, a18, a19, a20, a21, upd a22 1 (-1), a23, a24, a25, a26, a27, a28, a29, a30)) : wpX_perform Q (tb, nd, cl, mp, wd, nr, lo, rr, rz, a1, a2, a3, a4, a5, a6, a7, a8, a9, a10, a11, a12, a13, a14, a15, a16, a17, a18, a19, a20, a21, a22, a23, a24, a25, a26, a27, a28, a29, a30) (nI pc) := by
  unfold wpX_perform
  refine ⟨pk_in pc 192 (by omega), nm_r (e' := nI 1) (qp_at pc h15) ⟨pk_in pc 192 (by omega), nm_r (e' := nI 2) (qp_at pc h16) ⟨pk_in pc 192 (by omega), nm_e ⟨pk_in pc 192 (by omega), nm_r (e' := 7) (qp_at pc h14) (br_f (by decide) (br_f (by decide) (br_f (by decide) (br_f (by decide) (br_f (by decide) (br_f (by decide) (br_f (by decide) (br_f (by decide) (br_t rfl ?_)))))))))⟩⟩⟩⟩
  refine qp_matchN h6 h8 h10 h11 hs ?_
  exact qp_336f pc d hpc hd hp
theorem qp_pfG {Q : Int32 → St2 → Prop} {tb nd cl mp wd nr lo rr rz : Int32} {a1 a2 a3 a4 a5 a6 a7 a8 a9 a10 a11 a12 a13 a14 a15 a16 a17 a18 a19 a20 a21 a22 a23 a24 a25 a26 a27 a28 a29 a30 : Nat → Int32} (pc : Nat) (hpc : pc < 16) (h14 : a14 pc = 12) (h15 : a15 pc = nI 3) (h16 : a16 pc = nI 0) (h17 : a17 pc = nI 3) (k w : Int32) (G : List (Int32 × Int32)) (hk : a21 0 = k) (hw : a21 3 = w) (h9 : a9 3 = 1) (hG : qp_G G a25 a26 a27 a28 a29) (hl : (qp_gf G k w).length ≤ 2)
    (hp : ∀ b25 b26 b27 b28 b29 : Nat → Int32, qp_G (qp_gf G k w) b25 b26 b27 b28 b29 → (∀ j, j < 432 → b25 j = a25 j) → qp_Fr 3 a26 a27 a29 b26 b27 b29 → Q (nI (pc + 1)) (tb, nd, cl, mp, wd, nr, lo, rr, rz, a1, a2, a3, a4, a5, a6, a7, a8, a9, a10, a11, a12, a13, a14, a15, a16, a17, a18, a19, a20, a21, a22, a23, a24, b25, b26, b27, b28, b29, a30)) : wpX_perform Q (tb, nd, cl, mp, wd, nr, lo, rr, rz, a1, a2, a3, a4, a5, a6, a7, a8, a9, a10, a11, a12, a13, a14, a15, a16, a17, a18, a19, a20, a21, a22, a23, a24, a25, a26, a27, a28, a29, a30) (nI pc) := by
  subst hk hw
  unfold wpX_perform
  refine ⟨pk_in pc 192 (by omega), nm_r (e' := nI 3) (qp_at pc h15) ⟨pk_in pc 192 (by omega), nm_r (e' := nI 0) (qp_at pc h16) ⟨pk_in pc 192 (by omega), nm_r (e' := nI 3) (qp_at pc h17) ⟨pk_in pc 192 (by omega), nm_r (e' := 12) (qp_at pc h14) (br_f (by decide) (br_f (by decide) (br_f (by decide) (br_f (by decide) (br_f (by decide) (br_f (by decide) (br_f (by decide) (br_f (by decide) (br_f (by decide) (br_f (by decide) (br_f (by decide) (br_f (by decide) (br_f (by decide) (br_t rfl ?_))))))))))))))⟩⟩⟩⟩
  refine ⟨pk_in 0 32 (by decide), pk_in 3 32 (by decide), ?_⟩
  rw [show a21 (nI 0).toNatClampNeg = a21 0 from qp_at 0 rfl, show a21 (nI 3).toNatClampNeg = a21 3 from qp_at 3 rfl]
  refine qp_fold G h9 hG hl ?_
  intro b25 b26 b27 b28 b29 g1 g2 g3
  exact qp_336t pc (by decide) (hp b25 b26 b27 b28 b29 g1 g2 g3)
theorem qp_pfE {Q : Int32 → St2 → Prop} {tb nd cl mp wd nr lo rr rz : Int32} {a1 a2 a3 a4 a5 a6 a7 a8 a9 a10 a11 a12 a13 a14 a15 a16 a17 a18 a19 a20 a21 a22 a23 a24 a25 a26 a27 a28 a29 a30 : Nat → Int32} (pc : Nat) (hpc : pc < 16) (h14 : a14 pc = 14) (h16 : a16 pc = nI 2) (h17 : a17 pc = 32) (n : Nat) (hn : n < 2) (hr : rr = nI n)
    (hp : Q (nI (pc + 1)) (tb, nd, cl, mp, wd, nr, lo, nI (n + 1), rz, a1, a2, a3, a4, a5, a6, a7, a8, a9, a10, a11, a12, a13, a14, a15, a16, a17, a18, a19, a20, a21, a22, a23, a24, a25, a26, a27, a28, a29, upd (upd a30 (n * 6) (a21 0)) (n * 6 + 1) (a21 1))) : wpX_perform Q (tb, nd, cl, mp, wd, nr, lo, rr, rz, a1, a2, a3, a4, a5, a6, a7, a8, a9, a10, a11, a12, a13, a14, a15, a16, a17, a18, a19, a20, a21, a22, a23, a24, a25, a26, a27, a28, a29, a30) (nI pc) := by
  unfold wpX_perform
  refine ⟨pk_in pc 192 (by omega), nm_e ⟨pk_in pc 192 (by omega), nm_r (e' := nI 2) (qp_at pc h16) ⟨pk_in pc 192 (by omega), nm_r (e' := 32) (qp_at pc h17) ⟨pk_in pc 192 (by omega), nm_r (e' := 14) (qp_at pc h14) (br_f (by decide) (br_f (by decide) (br_f (by decide) (br_f (by decide) (br_f (by decide) (br_f (by decide) (br_f (by decide) (br_f (by decide) (br_f (by decide) (br_f (by decide) (br_f (by decide) (br_f (by decide) (br_f (by decide) (br_f (by decide) (br_f (by decide) (br_t rfl ?_))))))))))))))))⟩⟩⟩⟩
  refine qp_emit n hn ?_ hr
  exact qp_336t pc (by decide) hp
/-! steps of the machine: B bounds what is still to come -/
def qp_X (post : St2 → Prop) (B pc : Nat) (u : St2) : Prop := ∀ n s : Nat, B ≤ n → s + B ≤ 1000 → match u with
  | (tb, nd, cl, mp, wd, nr, lo, rr, rz, a1, a2, a3, a4, a5, a6, a7, a8, a9, a10, a11, a12, a13, a14, a15, a16, a17, a18, a19, a20, a21, a22, a23, a24, a25, a26, a27, a28, a29, a30) => wX_execute_51 post n (nI pc) (nI s) tb nd cl mp wd nr lo rr rz a1 a2 a3 a4 a5 a6 a7 a8 a9 a10 a11 a12 a13 a14 a15 a16 a17 a18 a19 a20 a21 a22 a23 a24 a25 a26 a27 a28 a29 a30
theorem qp_stop {post : St2 → Prop} {tb nd cl mp wd nr lo rr rz : Int32} {a1 a2 a3 a4 a5 a6 a7 a8 a9 a10 a11 a12 a13 a14 a15 a16 a17 a18 a19 a20 a21 a22 a23 a24 a25 a26 a27 a28 a29 a30 : Nat → Int32} (B : Nat) (h14 : a14 15 = 0) (hp : post (tb, nd, cl, mp, wd, nr, lo, rr, rz, a1, a2, a3, a4, a5, a6, a7, a8, a9, a10, a11, a12, a13, a14, a15, a16, a17, a18, a19, a20, a21, a22, a23, a24, a25, a26, a27, a28, a29, a30)) : qp_X post (B + 1) 15 (tb, nd, cl, mp, wd, nr, lo, rr, rz, a1, a2, a3, a4, a5, a6, a7, a8, a9, a10, a11, a12, a13, a14, a15, a16, a17, a18, a19, a20, a21, a22, a23, a24, a25, a26, a27, a28, a29, a30) := by
  intro n s hn hs
  obtain ⟨m, rfl⟩ : ∃ m, n = m + 1 := ⟨n - 1, by omega⟩
  show wX_execute_51 post (m + 1) (nI 15) (nI s) tb nd cl mp wd nr lo rr rz a1 a2 a3 a4 a5 a6 a7 a8 a9 a10 a11 a12 a13 a14 a15 a16 a17 a18 a19 a20 a21 a22 a23 a24 a25 a26 a27 a28 a29 a30
  exact pk_le 100000 s (fun z => absurd z (by omega)) (fun _ => ⟨pk_in 15 192 (by decide), br_t (qp_at 15 h14) hp⟩)
theorem qp_stepX {post : St2 → Prop} {tb nd cl mp wd nr lo rr rz : Int32} {a1 a2 a3 a4 a5 a6 a7 a8 a9 a10 a11 a12 a13 a14 a15 a16 a17 a18 a19 a20 a21 a22 a23 a24 a25 a26 a27 a28 a29 a30 : Nat → Int32} (B pc pc' : Nat) (hpc : pc < 16) (hop : ¬ a14 pc = 0) (hf : ∀ Q : Int32 → St2 → Prop, (∀ u', qp_X post B pc' u' → Q (nI pc') u') → wpX_perform Q (tb, nd, cl, mp, wd, nr, lo, rr, rz, a1, a2, a3, a4, a5, a6, a7, a8, a9, a10, a11, a12, a13, a14, a15, a16, a17, a18, a19, a20, a21, a22, a23, a24, a25, a26, a27, a28, a29, a30) (nI pc)) : qp_X post (B + 1) pc (tb, nd, cl, mp, wd, nr, lo, rr, rz, a1, a2, a3, a4, a5, a6, a7, a8, a9, a10, a11, a12, a13, a14, a15, a16, a17, a18, a19, a20, a21, a22, a23, a24, a25, a26, a27, a28, a29, a30) := by
  intro n s hn hs
  obtain ⟨m, rfl⟩ : ∃ m, n = m + 1 := ⟨n - 1, by omega⟩
  show wX_execute_51 post (m + 1) (nI pc) (nI s) tb nd cl mp wd nr lo rr rz a1 a2 a3 a4 a5 a6 a7 a8 a9 a10 a11 a12 a13 a14 a15 a16 a17 a18 a19 a20 a21 a22 a23 a24 a25 a26 a27 a28 a29 a30
  refine pk_le 100000 s (fun z => absurd z (by omega)) (fun _ => ⟨pk_in pc 192 (by omega), br_f (qp_ne pc rfl hop) (hf _ ?_)⟩)
  intro u' hk
  have hk' := hk m (s + 1) (by omega) (by omega)
  obtain ⟨tb, nd, cl, mp, wd, nr, lo, rr, rz, a1, a2, a3, a4, a5, a6, a7, a8, a9, a10, a11, a12, a13, a14, a15, a16, a17, a18, a19, a20, a21, a22, a23, a24, a25, a26, a27, a28, a29, a30⟩ := u'
  exact nm_r (nI_1 s) hk'
theorem qp_step {post : St2 → Prop} {tb nd cl mp wd nr lo rr rz : Int32} {a1 a2 a3 a4 a5 a6 a7 a8 a9 a10 a11 a12 a13 a14 a15 a16 a17 a18 a19 a20 a21 a22 a23 a24 a25 a26 a27 a28 a29 a30 : Nat → Int32} {u' : St2} (B pc pc' : Nat) (hpc : pc < 16) (hop : ¬ a14 pc = 0) (hf : ∀ Q : Int32 → St2 → Prop, Q (nI pc') u' → wpX_perform Q (tb, nd, cl, mp, wd, nr, lo, rr, rz, a1, a2, a3, a4, a5, a6, a7, a8, a9, a10, a11, a12, a13, a14, a15, a16, a17, a18, a19, a20, a21, a22, a23, a24, a25, a26, a27, a28, a29, a30) (nI pc)) (hk : qp_X post B pc' u') : qp_X post (B + 1) pc (tb, nd, cl, mp, wd, nr, lo, rr, rz, a1, a2, a3, a4, a5, a6, a7, a8, a9, a10, a11, a12, a13, a14, a15, a16, a17, a18, a19, a20, a21, a22, a23, a24, a25, a26, a27, a28, a29, a30) :=
  qp_stepX B pc pc' hpc hop (fun Q hQ => hf Q (hQ u' hk))
theorem qp_more {post : St2 → Prop} {B pc : Nat} {u : St2} (k : Nat) (h : qp_X post B pc u) : qp_X post (B + k) pc u := fun n s hn hs => h n s (by omega) (by omega)
theorem qp_fill {f : Nat → Int32} {i : Nat} {v : Int32} (h : ∀ j, j < i → f j = v) : ∀ j, j < i + 1 → upd f i v j = v := by
  intro j hj
  by_cases e : j = i
  · rw [e, pk_us]
  · rw [pk_un e]
    exact h j (by omega)
theorem qp_exec {post : St2 → Prop} {tb nd cl mp wd nr lo rr rz : Int32} {a1 a2 a3 a4 a5 a6 a7 a8 a9 a10 a11 a12 a13 a14 a15 a16 a17 a18 a19 a20 a21 a22 a23 a24 a25 a26 a27 a28 a29 a30 : Nat → Int32} (H : ∀ a26 a27 : Nat → Int32, (∀ j, j < 12 → a26 j = 0) → (∀ j, j < 96 → a27 j = -1) → qp_X post 100 0 (tb, nd, cl, mp, wd, nr, lo, 0, rz, a1, a2, a3, a4, a5, a6, a7, a8, a9, a10, a11, a12, a13, a14, a15, a16, a17, a18, a19, a20, a21, a22, a23, a24, a25, a26, a27, a28, a29, a30)) : wpX_execute post (tb, nd, cl, mp, wd, nr, lo, rr, rz, a1, a2, a3, a4, a5, a6, a7, a8, a9, a10, a11, a12, a13, a14, a15, a16, a17, a18, a19, a20, a21, a22, a23, a24, a25, a26, a27, a28, a29, a30) := by
  unfold wpX_execute
  refine loop_0 (fun n i s => wX_execute_2 post tb nd cl mp wd nr lo rr rz n (nI i) a1 a2 a3 a4 a5 a6 a7 a8 a9 a10 a11 a12 a13 a14 a15 a16 a17 a18 a19 a20 a21 a22 a23 a24 a25 s a27 a28 a29 a30) (fun i s => ∀ j, j < i → s j = 0) 12 a26 lt_0 (fun n s h => ?_) (fun n i s hi h hw => ?_)
  · refine pk_le 12 12 (fun _ => ?_) (fun z => absurd z (by omega))
    refine loop_0 (fun n i q => wX_execute_23 post tb nd cl mp wd nr lo rr rz n (nI i) a1 a2 a3 a4 a5 a6 a7 a8 a9 a10 a11 a12 a13 a14 a15 a16 a17 a18 a19 a20 a21 a22 a23 a24 a25 s q a28 a29 a30) (fun i q => ∀ j, j < i → q j = -1) 96 a27 lt_0 (fun n q hq => ?_) (fun n i q hi hq hw => ?_)
    · exact pk_le 96 96 (fun _ => ⟨100, H s q h hq 100 0 (by omega) (by omega)⟩) (fun z => absurd z (by omega))
    · exact pk_le 96 i (fun z => absurd z (by omega)) (fun _ => ⟨pk_in i 96 hi, nm_r (qp_up i) (nm_r (nI_1 i) (hw _ (qp_fill hq)))⟩)
  · exact pk_le 12 i (fun z => absurd z (by omega)) (fun _ => ⟨pk_in i 12 hi, nm_r (qp_up i) (nm_r (nI_1 i) (hw _ (qp_fill h)))⟩)
end
section
/-! what the machine is given -/
def qp_Fix (k1 k2 m1 m2 w1 w2 : Int32) (a2 a3 a4 a6 a8 a9 a10 a11 : Nat → Int32) : Prop :=
  a2 0 = 2 ∧ a2 1 = 2 ∧ a3 0 = k1 ∧ a3 3 = k2 ∧ a3 30 = m1 ∧ a3 31 = w1 ∧ a3 33 = m2 ∧ a3 34 = w2 ∧ a4 0 = 0 ∧ a4 1 = 0 ∧ a4 3 = 7 ∧ a6 2 = 1 ∧ a8 0 = 0 ∧ a8 1 = 1 ∧ a8 2 = 0 ∧ a9 3 = 1 ∧ a10 2 = 0 ∧ a11 0 = 2 ∧ a11 1 = 2 ∧ a11 3 = 2
theorem qp_op0 {a14 a15 a16 a17 a18 : Nat → Int32} (hC : qp_Code a14 a15 a16 a17 a18) {pc : Nat} (h : pc < 15) : ¬ a14 pc = 0 := by
  rw [hC.1 pc (by omega)]
  revert pc
  decide
/-! the first loop: table 1 goes to the join's store -/
theorem qp_ph1 {post : St2 → Prop} {tb nd cl mp wd nr lo rr rz : Int32} {a1 a2 a3 a4 a5 a6 a7 a8 a9 a10 a11 a12 a13 a14 a15 a16 a17 a18 a19 a20 a21 a22 a23 a24 a25 a26 a27 a28 a29 a30 : Nat → Int32} {k1 k2 m1 m2 w1 w2 : Int32} (B : Nat) (hC : qp_Code a14 a15 a16 a17 a18) (hF : qp_Fix k1 k2 m1 m2 w1 w2 a2 a3 a4 a6 a8 a9 a10 a11)
    (z26 : ∀ j, j < 12 → a26 j = 0) (z27 : ∀ j, j < 96 → a27 j = -1)
    (H : ∀ a21 a22 a25 a26 a27 a28 a29 : Nat → Int32, qp_R2 2 m1 m2 a25 a26 a27 a29 → a25 289 = w1 → a25 295 = w2 → qp_G [] a25 a26 a27 a28 a29 → qp_X post B 4 (tb, nd, cl, mp, wd, nr, lo, rr, rz, a1, a2, a3, a4, a5, a6, a7, a8, a9, a10, a11, a12, a13, a14, a15, a16, a17, a18, a19, a20, a21, a22, a23, a24, a25, a26, a27, a28, a29, a30)) :
    qp_X post (B + 8) 0 (tb, nd, cl, mp, wd, nr, lo, rr, rz, a1, a2, a3, a4, a5, a6, a7, a8, a9, a10, a11, a12, a13, a14, a15, a16, a17, a18, a19, a20, a21, a22, a23, a24, a25, a26, a27, a28, a29, a30) := by
  obtain ⟨h20, h21, h30, h33, h330, h331, h333, h334, h40, h41, h43, h62, h80, h81, h82, h93, h102, h110, h111, h113⟩ := hF
  obtain ⟨c14, c15, c16, c17, c18⟩ := id hC
  refine qp_step (B + 7) 0 1 (by decide) (qp_op0 hC (by decide)) (fun Q h => qp_pfO 0 (by decide) (c14 0 (by decide)) (c15 0 (by decide)) h) ?_
  refine qp_step (B + 6) 1 2 (by decide) (qp_op0 hC (by decide)) (fun Q h => qp_pfFT 1 1 (by decide) (c14 1 (by decide)) (c15 1 (by decide)) (c16 1 (by decide)) (c17 1 (by decide)) 1 0 2 (by decide) (by decide) (by decide) (by decide) rfl h41 h81 h21 h111 h) ?_
  have R0 : qp_R0 2 a26 a27 := ⟨z26 2 (by decide), fun h hh => z27 (2 * 8 + h) (by omega)⟩
  refine qp_stepX (B + 5) 2 3 (by decide) (qp_op0 hC (by decide)) (fun Q hQ => qp_pfK 2 (by decide) (c14 2 (by decide)) (c15 2 (by decide)) (c16 2 (by decide)) (c17 2 (by decide)) 0 (by decide) h102 R0.1 (fun Q' hQ' => ?_))
  refine qp_chain0 2 m1 (by decide) R0 h330 ?_ rfl rfl (congrArg (fun z => nI (qp_bk z)) h330)
  intro b26 b27 b28 b29 R1 F1
  refine hQ' _ (hQ _ ?_)
  refine qp_step (B + 4) 3 1 (by decide) (qp_op0 hC (by decide)) (fun Q h => qp_pfJ 3 (by decide) (c14 3 (by decide)) 1 (c18 3 (by decide)) h) ?_
  refine qp_step (B + 3) 1 2 (by decide) (qp_op0 hC (by decide)) (fun Q h => qp_pfFT 1 1 (by decide) (c14 1 (by decide)) (c15 1 (by decide)) (c16 1 (by decide)) (c17 1 (by decide)) 1 1 2 (by decide) (by decide) (by decide) (by decide) rfl h41 h81 h21 h111 h) ?_
  refine qp_stepX (B + 2) 2 3 (by decide) (qp_op0 hC (by decide)) (fun Q hQ => qp_pfK 2 (by decide) (c14 2 (by decide)) (c15 2 (by decide)) (c16 2 (by decide)) (c17 2 (by decide)) 1 (by decide) h102 R1.1 (fun Q' hQ' => ?_))
  obtain ⟨r1, r2, r3, r4, r5⟩ := R1
  refine qp_chain1 2 m1 m2 (by decide) ⟨r1, r2, r3, r4, r5⟩ h333 ?_ rfl rfl (congrArg (fun z => nI (qp_bk z)) h333)
  intro d26 d27 d28 d29 R2 F2
  refine hQ' _ (hQ _ ?_)
  refine qp_step (B + 1) 3 1 (by decide) (qp_op0 hC (by decide)) (fun Q h => qp_pfJ 3 (by decide) (c14 3 (by decide)) 1 (c18 3 (by decide)) h) ?_
  refine qp_step B 1 4 (by decide) (qp_op0 hC (by decide)) (fun Q h => qp_pfFTE 1 1 (by decide) (c14 1 (by decide)) (c15 1 (by decide)) (c16 1 (by decide)) 1 2 4 (by decide) (by decide) (by decide) rfl h41 h81 h21 (c18 1 (by decide)) h) ?_
  exact H _ _ _ _ _ _ _ R2 h331 h334 ⟨((F2.1 3 (by decide)).trans (F1.1 3 (by decide))).trans (z26 3 (by decide)), fun h hh => ((F2.2.1 (3 * 8 + h) (Or.inr (by omega))).trans (F1.2.1 (3 * 8 + h) (Or.inr (by omega)))).trans (z27 (3 * 8 + h) (by omega))⟩
/-! the second loop: the rows of table 0 meet their matches -/
/-- what stands at the head of the second loop: the cursor, the join's rows, the groups -/
def qp_J (m1 m2 w1 w2 : Int32) (G : List (Int32 × Int32)) (i : Nat) (a22 a25 a26 a27 a28 a29 : Nat → Int32) : Prop :=
  a22 0 = nI i ∧ qp_R2 2 m1 m2 a25 a26 a27 a29 ∧ a25 289 = w1 ∧ a25 295 = w2 ∧ qp_G G a25 a26 a27 a28 a29
/-- and inside it, at MATCH -/
def qp_L (m1 m2 w1 w2 k cur : Int32) (G : List (Int32 × Int32)) (i : Nat) (a21 a22 a23 a25 a26 a27 a28 a29 : Nat → Int32) : Prop :=
  qp_J m1 m2 w1 w2 G i a22 a25 a26 a27 a28 a29 ∧ a21 0 = k ∧ a23 1 = k ∧ a22 1 = cur
theorem qp_J_fold {m1 m2 w1 w2 : Int32} {G G' : List (Int32 × Int32)} {i : Nat} {a22 a25 a26 a27 a28 a29 b25 b26 b27 b28 b29 : Nat → Int32} (h : qp_J m1 m2 w1 w2 G i a22 a25 a26 a27 a28 a29)
    (g1 : qp_G G' b25 b26 b27 b28 b29) (g2 : ∀ j, j < 432 → b25 j = a25 j) (g3 : qp_Fr 3 a26 a27 a29 b26 b27 b29) : qp_J m1 m2 w1 w2 G' i a22 b25 b26 b27 b28 b29 := by
  obtain ⟨j1, ⟨r1, r2, r3, r4, r5, r6⟩, j3, j4, j5⟩ := h
  obtain ⟨f1, f2, f3⟩ := g3
  exact ⟨j1, ⟨(f1 2 (by decide)).trans r1, (g2 288 (by decide)).trans r2, (g2 294 (by decide)).trans r3, fun h hh => (f2 _ (Or.inl (by omega))).trans (r4 h hh), (f3 48 (by decide)).trans r5, (f3 49 (by decide)).trans r6⟩, (g2 289 (by decide)).trans j3, (g2 295 (by decide)).trans j4, g1⟩
/-- no further match: on to the next row -/
theorem qp_mtN {post : St2 → Prop} {tb nd cl mp wd nr lo rr rz : Int32} {a1 a2 a3 a4 a5 a6 a7 a8 a9 a10 a11 a12 a13 a14 a15 a16 a17 a18 a19 a20 a21 a22 a23 a24 a25 a26 a27 a28 a29 a30 : Nat → Int32} {k1 k2 m1 m2 w1 w2 k cur : Int32} {G : List (Int32 × Int32)} {i : Nat} (B : Nat) (hC : qp_Code a14 a15 a16 a17 a18) (hF : qp_Fix k1 k2 m1 m2 w1 w2 a2 a3 a4 a6 a8 a9 a10 a11)
    (hL : qp_L m1 m2 w1 w2 k cur G i a21 a22 a23 a25 a26 a27 a28 a29)
    (hs : ∀ Q : Int32 → Prop, Q (-1) → wpX_seek Q (tb, nd, cl, mp, wd, nr, lo, rr, rz, a1, a2, a3, a4, a5, a6, a7, a8, a9, a10, a11, a12, a13, a14, a15, a16, a17, a18, a19, a20, a21, a22, a23, a24, a25, a26, a27, a28, a29, a30) (nI 2) 0 k cur)
    (H : ∀ a21 a22 a23 a24 a25 a26 a27 a28 a29 : Nat → Int32, qp_J m1 m2 w1 w2 G i a22 a25 a26 a27 a28 a29 → qp_X post B 5 (tb, nd, cl, mp, wd, nr, lo, rr, rz, a1, a2, a3, a4, a5, a6, a7, a8, a9, a10, a11, a12, a13, a14, a15, a16, a17, a18, a19, a20, a21, a22, a23, a24, a25, a26, a27, a28, a29, a30)) :
    qp_X post (B + 2) 7 (tb, nd, cl, mp, wd, nr, lo, rr, rz, a1, a2, a3, a4, a5, a6, a7, a8, a9, a10, a11, a12, a13, a14, a15, a16, a17, a18, a19, a20, a21, a22, a23, a24, a25, a26, a27, a28, a29, a30) := by
  obtain ⟨h20, h21, h30, h33, h330, h331, h333, h334, h40, h41, h43, h62, h80, h81, h82, h93, h102, h110, h111, h113⟩ := hF
  obtain ⟨c14, c15, c16, c17, c18⟩ := id hC
  obtain ⟨⟨j1, j2, j3, j4, j5⟩, l2, l3, l4⟩ := hL
  refine qp_step (B + 1) 7 10 (by decide) (qp_op0 hC (by decide)) (fun Q h => qp_pfMN 7 (by decide) (c14 7 (by decide)) (c15 7 (by decide)) (c16 7 (by decide)) 10 h62 h82 h102 h111 (by rw [l3, l4]; exact hs) (c18 7 (by decide)) h) ?_
  refine qp_step B 10 5 (by decide) (qp_op0 hC (by decide)) (fun Q h => qp_pfJ 10 (by decide) (c14 10 (by decide)) 5 (c18 10 (by decide)) h) ?_
  exact H _ _ _ _ _ _ _ _ _ ⟨j1, j2, j3, j4, j5⟩
/-- a match: it is folded into its group, and the search goes on behind it -/
theorem qp_mtH {post : St2 → Prop} {tb nd cl mp wd nr lo rr rz : Int32} {a1 a2 a3 a4 a5 a6 a7 a8 a9 a10 a11 a12 a13 a14 a15 a16 a17 a18 a19 a20 a21 a22 a23 a24 a25 a26 a27 a28 a29 a30 : Nat → Int32} {k1 k2 m1 m2 w1 w2 k cur : Int32} {G : List (Int32 × Int32)} {i : Nat} (B e : Nat) (w : Int32) (he : e < 2) (hC : qp_Code a14 a15 a16 a17 a18) (hF : qp_Fix k1 k2 m1 m2 w1 w2 a2 a3 a4 a6 a8 a9 a10 a11)
    (hL : qp_L m1 m2 w1 w2 k cur G i a21 a22 a23 a25 a26 a27 a28 a29) (hw : a25 (288 + e * 6 + 1) = w) (hl : (qp_gf G k w).length ≤ 2)
    (hs : ∀ Q : Int32 → Prop, Q (nI e) → wpX_seek Q (tb, nd, cl, mp, wd, nr, lo, rr, rz, a1, a2, a3, a4, a5, a6, a7, a8, a9, a10, a11, a12, a13, a14, a15, a16, a17, a18, a19, a20, a21, a22, a23, a24, a25, a26, a27, a28, a29, a30) (nI 2) 0 k cur)
    (H : ∀ b21 b22 b24 b25 b26 b27 b28 b29 : Nat → Int32, qp_L m1 m2 w1 w2 k (b29 (48 + e)) (qp_gf G k w) i b21 b22 a23 b25 b26 b27 b28 b29 → qp_X post B 7 (tb, nd, cl, mp, wd, nr, lo, rr, rz, a1, a2, a3, a4, a5, a6, a7, a8, a9, a10, a11, a12, a13, a14, a15, a16, a17, a18, a19, a20, b21, b22, a23, b24, b25, b26, b27, b28, b29, a30)) :
    qp_X post (B + 3) 7 (tb, nd, cl, mp, wd, nr, lo, rr, rz, a1, a2, a3, a4, a5, a6, a7, a8, a9, a10, a11, a12, a13, a14, a15, a16, a17, a18, a19, a20, a21, a22, a23, a24, a25, a26, a27, a28, a29, a30) := by
  obtain ⟨h20, h21, h30, h33, h330, h331, h333, h334, h40, h41, h43, h62, h80, h81, h82, h93, h102, h110, h111, h113⟩ := hF
  obtain ⟨c14, c15, c16, c17, c18⟩ := id hC
  obtain ⟨hJ, l2, l3, l4⟩ := hL
  obtain ⟨j1, j2, j3, j4, j5⟩ := id hJ
  refine qp_step (B + 2) 7 8 (by decide) (qp_op0 hC (by decide)) (fun Q h => qp_pfMH 7 (by decide) (c14 7 (by decide)) (c15 7 (by decide)) (c16 7 (by decide)) (c17 7 (by decide)) e he h62 h102 h111 (by rw [l3, l4]; exact hs) h) ?_
  refine qp_stepX (B + 1) 8 9 (by decide) (qp_op0 hC (by decide)) (fun Q hQ => qp_pfG 8 (by decide) (c14 8 (by decide)) (c15 8 (by decide)) (c16 8 (by decide)) (c17 8 (by decide)) k w G l2 hw h93 j5 hl (fun b25 b26 b27 b28 b29 g1 g2 g3 => hQ _ ?_))
  refine qp_step B 9 7 (by decide) (qp_op0 hC (by decide)) (fun Q h => qp_pfJ 9 (by decide) (c14 9 (by decide)) 7 (c18 9 (by decide)) h) ?_
  obtain ⟨q1, q2, q3, q4, q5⟩ := qp_J_fold hJ g1 g2 g3
  refine H _ _ _ _ _ _ _ _ ⟨⟨j1, q2, q3, q4, q5⟩, l2, l3, ?_⟩
  show a29 (48 + e) = b29 (48 + e)
  exact (g3.2.2 _ (by omega)).symm
/-- one row of table 0 -/
def qp_row (m1 m2 w1 w2 k : Int32) (G : List (Int32 × Int32)) : List (Int32 × Int32) :=
  if m2 = k then qp_gf (if m1 = k then qp_gf G k w1 else G) k w2 else (if m1 = k then qp_gf G k w1 else G)
theorem qp_gfl (G : List (Int32 × Int32)) (k w : Int32) : G.length ≤ (qp_gf G k w).length := by
  induction G with
  | nil => simp [qp_gf]
  | cons a t ih =>
    obtain ⟨x, s⟩ := a
    unfold qp_gf
    split
    · simp
    · simp only [List.length_cons]
      omega
theorem qp_ph2r {post : St2 → Prop} {tb nd cl mp wd nr lo rr rz : Int32} {a1 a2 a3 a4 a5 a6 a7 a8 a9 a10 a11 a12 a13 a14 a15 a16 a17 a18 a19 a20 a21 a22 a23 a24 a25 a26 a27 a28 a29 a30 : Nat → Int32} {k1 k2 m1 m2 w1 w2 : Int32} {G : List (Int32 × Int32)} (B i : Nat) (k : Int32) (hi : i < 2) (hC : qp_Code a14 a15 a16 a17 a18) (hF : qp_Fix k1 k2 m1 m2 w1 w2 a2 a3 a4 a6 a8 a9 a10 a11)
    (hk : a3 (i * 3) = k) (hJ : qp_J m1 m2 w1 w2 G i a22 a25 a26 a27 a28 a29) (hl : (qp_row m1 m2 w1 w2 k G).length ≤ 2)
    (H : ∀ a21 a22 a23 a24 a25 a26 a27 a28 a29 : Nat → Int32, qp_J m1 m2 w1 w2 (qp_row m1 m2 w1 w2 k G) (i + 1) a22 a25 a26 a27 a28 a29 → qp_X post B 5 (tb, nd, cl, mp, wd, nr, lo, rr, rz, a1, a2, a3, a4, a5, a6, a7, a8, a9, a10, a11, a12, a13, a14, a15, a16, a17, a18, a19, a20, a21, a22, a23, a24, a25, a26, a27, a28, a29, a30)) :
    qp_X post (B + 10) 5 (tb, nd, cl, mp, wd, nr, lo, rr, rz, a1, a2, a3, a4, a5, a6, a7, a8, a9, a10, a11, a12, a13, a14, a15, a16, a17, a18, a19, a20, a21, a22, a23, a24, a25, a26, a27, a28, a29, a30) := by
  obtain ⟨h20, h21, h30, h33, h330, h331, h333, h334, h40, h41, h43, h62, h80, h81, h82, h93, h102, h110, h111, h113⟩ := id hF
  obtain ⟨c14, c15, c16, c17, c18⟩ := id hC
  obtain ⟨j1, j2, j3, j4, j5⟩ := hJ
  refine qp_step (B + 9) 5 6 (by decide) (qp_op0 hC (by decide)) (fun Q h => qp_pfFT 5 0 (by decide) (c14 5 (by decide)) (c15 5 (by decide)) (c16 5 (by decide)) (c17 5 (by decide)) 0 i 2 (by decide) (by decide) (by decide) hi j1 h40 h80 h20 h110 h) ?_
  rw [show 0 * 30 + i * 3 = i * 3 by omega, hk]
  refine qp_step (B + 8) 6 7 (by decide) (qp_op0 hC (by decide)) (fun Q h => qp_pfP 6 (by decide) (c14 6 (by decide)) (c15 6 (by decide)) (c16 6 (by decide)) (c17 6 (by decide)) k rfl h) ?_
  unfold qp_row at hl H
  by_cases g1 : m1 = k
  · rw [if_pos g1] at hl H
    have hl1 : (qp_gf G k w1).length ≤ 2 := by
      by_cases g2 : m2 = k
      · rw [if_pos g2] at hl
        have := qp_gfl (qp_gf G k w1) k w2
        omega
      · rw [if_neg g2] at hl
        exact hl
    refine qp_mtH (k := k) (cur := a27 (16 + qp_bk k)) (G := G) (i := i + 1) (B + 5) 0 w1 (by decide) hC hF ⟨⟨rfl, j2, j3, j4, j5⟩, rfl, rfl, rfl⟩ j3 hl1 (fun Q hQ => qp_look2 2 (by decide) j2 (by rw [if_pos g1]; exact hQ) rfl rfl) ?_
    intro b21 b22 b24 b25 b26 b27 b28 b29 hL
    obtain ⟨⟨q1, q2, q3, q4, q5⟩, l2, l3, l4⟩ := id hL
    by_cases g2 : m2 = k
    · rw [if_pos g2] at hl H
      refine qp_mtH (B + 2) 1 w2 (by decide) hC hF hL q4 hl (fun Q hQ => qp_lookB 2 (by decide) q2 g1 (by rw [if_pos g2]; exact hQ) rfl rfl) ?_
      intro d21 d22 d24 d25 d26 d27 d28 d29 hL2
      obtain ⟨⟨p1, p2, p3, p4, p5⟩, o2, o3, o4⟩ := id hL2
      exact qp_mtN B hC hF hL2 (fun Q hQ => qp_lookE hQ p2.2.2.2.2.2) H
    · rw [if_neg g2] at hl H
      exact qp_mtN (B + 3) hC hF hL (fun Q hQ => qp_lookB 2 (by decide) q2 g1 (by rw [if_neg g2]; exact hQ) rfl rfl) (fun a21 a22 a23 a24 a25 a26 a27 a28 a29 h => qp_more 3 (H a21 a22 a23 a24 a25 a26 a27 a28 a29 h))
  · rw [if_neg g1] at hl H
    by_cases g2 : m2 = k
    · rw [if_pos g2] at hl H
      refine qp_mtH (k := k) (cur := a27 (16 + qp_bk k)) (G := G) (i := i + 1) (B + 5) 1 w2 (by decide) hC hF ⟨⟨rfl, j2, j3, j4, j5⟩, rfl, rfl, rfl⟩ j4 hl (fun Q hQ => qp_look2 2 (by decide) j2 (by rw [if_neg g1, if_pos g2]; exact hQ) rfl rfl) ?_
      intro d21 d22 d24 d25 d26 d27 d28 d29 hL2
      obtain ⟨⟨p1, p2, p3, p4, p5⟩, o2, o3, o4⟩ := id hL2
      exact qp_mtN (B + 3) hC hF hL2 (fun Q hQ => qp_lookE hQ p2.2.2.2.2.2) (fun a21 a22 a23 a24 a25 a26 a27 a28 a29 h => qp_more 3 (H a21 a22 a23 a24 a25 a26 a27 a28 a29 h))
    · rw [if_neg g2] at hl H
      exact qp_mtN (k := k) (cur := a27 (16 + qp_bk k)) (G := G) (i := i + 1) (B + 6) hC hF ⟨⟨rfl, j2, j3, j4, j5⟩, rfl, rfl, rfl⟩ (fun Q hQ => qp_look2 2 (by decide) j2 (by rw [if_neg g1, if_neg g2]; exact hQ) rfl rfl) (fun a21 a22 a23 a24 a25 a26 a27 a28 a29 h => qp_more 6 (H a21 a22 a23 a24 a25 a26 a27 a28 a29 h))
theorem qp_ph2 {post : St2 → Prop} {tb nd cl mp wd nr lo rr rz : Int32} {a1 a2 a3 a4 a5 a6 a7 a8 a9 a10 a11 a12 a13 a14 a15 a16 a17 a18 a19 a20 a21 a22 a23 a24 a25 a26 a27 a28 a29 a30 : Nat → Int32} {k1 k2 m1 m2 w1 w2 : Int32} (B : Nat) (hC : qp_Code a14 a15 a16 a17 a18) (hF : qp_Fix k1 k2 m1 m2 w1 w2 a2 a3 a4 a6 a8 a9 a10 a11)
    (hR : qp_R2 2 m1 m2 a25 a26 a27 a29) (h289 : a25 289 = w1) (h295 : a25 295 = w2) (hG : qp_G [] a25 a26 a27 a28 a29)
    (hl1 : (qp_row m1 m2 w1 w2 k1 []).length ≤ 2) (hl2 : (qp_row m1 m2 w1 w2 k2 (qp_row m1 m2 w1 w2 k1 [])).length ≤ 2)
    (H : ∀ a21 a22 a23 a24 a25 a26 a27 a28 a29 : Nat → Int32, qp_G (qp_row m1 m2 w1 w2 k2 (qp_row m1 m2 w1 w2 k1 [])) a25 a26 a27 a28 a29 → qp_X post B 11 (tb, nd, cl, mp, wd, nr, lo, rr, rz, a1, a2, a3, a4, a5, a6, a7, a8, a9, a10, a11, a12, a13, a14, a15, a16, a17, a18, a19, a20, a21, a22, a23, a24, a25, a26, a27, a28, a29, a30)) :
    qp_X post (B + 22) 4 (tb, nd, cl, mp, wd, nr, lo, rr, rz, a1, a2, a3, a4, a5, a6, a7, a8, a9, a10, a11, a12, a13, a14, a15, a16, a17, a18, a19, a20, a21, a22, a23, a24, a25, a26, a27, a28, a29, a30) := by
  obtain ⟨h20, h21, h30, h33, h330, h331, h333, h334, h40, h41, h43, h62, h80, h81, h82, h93, h102, h110, h111, h113⟩ := id hF
  obtain ⟨c14, c15, c16, c17, c18⟩ := id hC
  refine qp_step (B + 21) 4 5 (by decide) (qp_op0 hC (by decide)) (fun Q h => qp_pfO 4 (by decide) (c14 4 (by decide)) (c15 4 (by decide)) h) ?_
  refine qp_ph2r (G := []) (B + 11) 0 k1 (by decide) hC hF h30 ⟨rfl, hR, h289, h295, hG⟩ hl1 ?_
  intro a21 a22 a23 a24 a25 a26 a27 a28 a29 hJ1
  refine qp_ph2r (B + 1) 1 k2 (by decide) hC hF h33 hJ1 hl2 ?_
  intro a21 a22 a23 a24 a25 a26 a27 a28 a29 hJ2
  obtain ⟨j1, j2, j3, j4, j5⟩ := hJ2
  refine qp_step B 5 11 (by decide) (qp_op0 hC (by decide)) (fun Q h => qp_pfFTE 5 0 (by decide) (c14 5 (by decide)) (c15 5 (by decide)) (c16 5 (by decide)) 0 2 11 (by decide) (by decide) (by decide) j1 h40 h80 h20 (c18 5 (by decide)) h) ?_
  exact H _ _ _ _ _ _ _ _ _ j5
/-! the third loop: the groups are emitted -/
def qp_Res (G : List (Int32 × Int32)) (rr : Int32) (a30 : Nat → Int32) : Prop := match G with
  | [] => rr = 0
  | [(x, s)] => rr = 1 ∧ a30 0 = x ∧ a30 1 = s
  | [(x, s), (y, t)] => rr = 2 ∧ a30 0 = x ∧ a30 1 = s ∧ a30 6 = y ∧ a30 7 = t
  | _ => False
theorem qp_em {post : St2 → Prop} {tb nd cl mp wd nr lo rr rz : Int32} {a1 a2 a3 a4 a5 a6 a7 a8 a9 a10 a11 a12 a13 a14 a15 a16 a17 a18 a19 a20 a21 a22 a23 a24 a25 a26 a27 a28 a29 a30 : Nat → Int32} (B i m : Nat) (hm : m ≤ 2) (hi : i < m) (hC : qp_Code a14 a15 a16 a17 a18) (h43 : a4 3 = 7) (h113 : a11 3 = 2) (h26 : a26 3 = nI m) (h22 : a22 0 = nI i) (hr : rr = nI i)
    (hk : qp_X post B 12 (tb, nd, cl, mp, wd, nr, lo, nI (i + 1), rz, a1, a2, a3, a4, a5, a6, a7, a8, a9, a10, a11, a12, a13, a14, a15, a16, a17, a18, a19, a20, upd (upd a21 0 (a25 (432 + i * 6))) 1 (a25 (432 + i * 6 + 1)), upd a22 0 (nI (i + 1)), a23, a24, a25, a26, a27, a28, a29, upd (upd a30 (i * 6) (a25 (432 + i * 6))) (i * 6 + 1) (a25 (432 + i * 6 + 1)))) :
    qp_X post (B + 3) 12 (tb, nd, cl, mp, wd, nr, lo, rr, rz, a1, a2, a3, a4, a5, a6, a7, a8, a9, a10, a11, a12, a13, a14, a15, a16, a17, a18, a19, a20, a21, a22, a23, a24, a25, a26, a27, a28, a29, a30) := by
  obtain ⟨c14, c15, c16, c17, c18⟩ := id hC
  refine qp_step (B + 2) 12 13 (by decide) (qp_op0 hC (by decide)) (fun Q h => qp_pfFS 12 (by decide) (c14 12 (by decide)) (c15 12 (by decide)) (c16 12 (by decide)) (c17 12 (by decide)) i m hm hi h22 h43 h26 h113 h) ?_
  refine qp_step (B + 1) 13 14 (by decide) (qp_op0 hC (by decide)) (fun Q h => qp_pfE 13 (by decide) (c14 13 (by decide)) (c16 13 (by decide)) (c17 13 (by decide)) i (by omega) hr h) ?_
  refine qp_step B 14 12 (by decide) (qp_op0 hC (by decide)) (fun Q h => qp_pfJ 14 (by decide) (c14 14 (by decide)) 12 (c18 14 (by decide)) h) ?_
  exact hk
theorem qp_emE {post : St2 → Prop} {tb nd cl mp wd nr lo rr rz : Int32} {a1 a2 a3 a4 a5 a6 a7 a8 a9 a10 a11 a12 a13 a14 a15 a16 a17 a18 a19 a20 a21 a22 a23 a24 a25 a26 a27 a28 a29 a30 : Nat → Int32} (B m : Nat) (hm : m ≤ 2) (hC : qp_Code a14 a15 a16 a17 a18) (h43 : a4 3 = 7) (h26 : a26 3 = nI m) (h22 : a22 0 = nI m) (hp : post (tb, nd, cl, mp, wd, nr, lo, rr, rz, a1, a2, a3, a4, a5, a6, a7, a8, a9, a10, a11, a12, a13, a14, a15, a16, a17, a18, a19, a20, a21, a22, a23, a24, a25, a26, a27, a28, a29, a30)) : qp_X post (B + 2) 12 (tb, nd, cl, mp, wd, nr, lo, rr, rz, a1, a2, a3, a4, a5, a6, a7, a8, a9, a10, a11, a12, a13, a14, a15, a16, a17, a18, a19, a20, a21, a22, a23, a24, a25, a26, a27, a28, a29, a30) := by
  obtain ⟨c14, c15, c16, c17, c18⟩ := id hC
  refine qp_step (B + 1) 12 15 (by decide) (qp_op0 hC (by decide)) (fun Q h => qp_pfFSE 12 (by decide) (c14 12 (by decide)) (c15 12 (by decide)) (c16 12 (by decide)) m 15 hm h22 h43 h26 (c18 12 (by decide)) h) ?_
  exact qp_stop B (c14 15 (by decide)) hp
theorem qp_ph3 {post : St2 → Prop} {tb nd cl mp wd nr lo rr rz : Int32} {a1 a2 a3 a4 a5 a6 a7 a8 a9 a10 a11 a12 a13 a14 a15 a16 a17 a18 a19 a20 a21 a22 a23 a24 a25 a26 a27 a28 a29 a30 : Nat → Int32} (B : Nat) (G : List (Int32 × Int32)) (hC : qp_Code a14 a15 a16 a17 a18) (h43 : a4 3 = 7) (h113 : a11 3 = 2) (hG : qp_G G a25 a26 a27 a28 a29) (hr : rr = 0)
    (H : ∀ (rr : Int32) (a21 a22 a30 : Nat → Int32), qp_Res G rr a30 → post (tb, nd, cl, mp, wd, nr, lo, rr, rz, a1, a2, a3, a4, a5, a6, a7, a8, a9, a10, a11, a12, a13, a14, a15, a16, a17, a18, a19, a20, a21, a22, a23, a24, a25, a26, a27, a28, a29, a30)) : qp_X post (B + 9) 11 (tb, nd, cl, mp, wd, nr, lo, rr, rz, a1, a2, a3, a4, a5, a6, a7, a8, a9, a10, a11, a12, a13, a14, a15, a16, a17, a18, a19, a20, a21, a22, a23, a24, a25, a26, a27, a28, a29, a30) := by
  obtain ⟨c14, c15, c16, c17, c18⟩ := id hC
  refine qp_step (B + 8) 11 12 (by decide) (qp_op0 hC (by decide)) (fun Q h => qp_pfO 11 (by decide) (c14 11 (by decide)) (c15 11 (by decide)) h) ?_
  match G, hG, H with
  | [], R, H => exact qp_emE (B + 6) 0 (by decide) hC h43 (show qp_R0 3 a26 a27 from R).1 rfl (H _ _ _ _ hr)
  | [(x, s)], ⟨R, hs⟩, H =>
    refine qp_em (B + 5) 0 1 (by decide) (by decide) hC h43 h113 R.1 rfl hr ?_
    exact qp_emE (B + 3) 1 (by decide) hC h43 R.1 rfl (H _ _ _ _ ⟨rfl, R.2.1, hs⟩)
  | [(x, s), (y, t)], ⟨R, hs, ht⟩, H =>
    refine qp_em (B + 5) 0 2 (by decide) (by decide) hC h43 h113 R.1 rfl hr ?_
    refine qp_em (B + 2) 1 2 (by decide) (by decide) hC h43 h113 R.1 rfl rfl ?_
    exact qp_emE B 2 (by decide) hC h43 R.1 rfl (H _ _ _ _ ⟨rfl, R.2.1, hs, R.2.2.1, ht⟩)
  | _ :: _ :: _ :: _, h, _ => exact False.elim h
/-! the whole of it -/
theorem qp_all {post : St2 → Prop} {tb nd cl mp wd nr lo rr rz : Int32} {a1 a2 a3 a4 a5 a6 a7 a8 a9 a10 a11 a12 a13 a14 a15 a16 a17 a18 a19 a20 a21 a22 a23 a24 a25 a26 a27 a28 a29 a30 : Nat → Int32} {k1 k2 m1 m2 w1 w2 : Int32} (hC : qp_Code a14 a15 a16 a17 a18) (hF : qp_Fix k1 k2 m1 m2 w1 w2 a2 a3 a4 a6 a8 a9 a10 a11)
    (hl1 : (qp_row m1 m2 w1 w2 k1 []).length ≤ 2) (hl2 : (qp_row m1 m2 w1 w2 k2 (qp_row m1 m2 w1 w2 k1 [])).length ≤ 2)
    (H : ∀ (rr : Int32) (a21 a22 a23 a24 a25 a26 a27 a28 a29 a30 : Nat → Int32), qp_Res (qp_row m1 m2 w1 w2 k2 (qp_row m1 m2 w1 w2 k1 [])) rr a30 → post (tb, nd, cl, mp, wd, nr, lo, rr, rz, a1, a2, a3, a4, a5, a6, a7, a8, a9, a10, a11, a12, a13, a14, a15, a16, a17, a18, a19, a20, a21, a22, a23, a24, a25, a26, a27, a28, a29, a30)) : wpX_execute post (tb, nd, cl, mp, wd, nr, lo, rr, rz, a1, a2, a3, a4, a5, a6, a7, a8, a9, a10, a11, a12, a13, a14, a15, a16, a17, a18, a19, a20, a21, a22, a23, a24, a25, a26, a27, a28, a29, a30) := by
  refine qp_exec (fun a26 a27 z26 z27 => ?_)
  refine qp_ph1 92 hC hF z26 z27 ?_
  intro a21 a22 a25 a26 a27 a28 a29 hR h1 h2 hG
  refine qp_ph2 70 hC hF hR h1 h2 hG hl1 hl2 ?_
  intro a21 a22 a23 a24 a25 a26 a27 a28 a29 hG2
  have hF' := hF
  obtain ⟨h20, h21, h30, h33, h330, h331, h333, h334, h40, h41, h43, h62, h80, h81, h82, h93, h102, h110, h111, h113⟩ := hF'
  refine qp_ph3 61 _ hC h43 h113 hG2 rfl ?_
  intro rr b21 b22 b30 hR
  exact H _ _ _ _ _ _ _ _ _ _ _ hR
end
section
/-! the law -/
theorem qp_init {post : St2 → Prop} (hp : post (2, 0, 0, 0, 0, 0, 0, 0, 0, upd (upd (upd (upd (fun _ => 0) 0 2) 1 2) 2 2) 3 2, (fun _ => 0), (fun _ => 0), (fun _ => 0), (fun _ => 0), (fun _ => 0), (fun _ => 0), (fun _ => 0), (fun _ => 0), (fun _ => 0), (fun _ => 0), (fun _ => 0), (fun _ => 0), (fun _ => 0), (fun _ => 0), (fun _ => 0), (fun _ => 0), (fun _ => 0), (fun _ => 0), (fun _ => 0), (fun _ => 0), (fun _ => 0), (fun _ => 0), (fun _ => 0), (fun _ => 0), (fun _ => 0), (fun _ => 0), (fun _ => 0), (fun _ => 0), (fun _ => 0))) : wpX_init post 30 3652 (0, 0, 0, 0, 0, 0, 0, 0, 0) 2 := by
  unfold wpX_init
  refine ⟨by decide, by decide, by decide, by decide, by decide, by decide, by decide, by decide, by decide, by decide, by decide, by decide, by decide, by decide, by decide, by decide, by decide, by decide, by decide, by decide, by decide, by decide, by decide, by decide, by decide, by decide, by decide, by decide, by decide, by decide, by decide, by decide, by decide, by decide, by decide, by decide, by decide, by decide, by decide, by decide, by decide, by decide, by decide, by decide, by decide, by decide, by decide, by decide, by decide, by decide, by decide, by decide, by decide, by decide, by decide, by decide, by decide, by decide, by decide, by decide, ?_⟩
  refine br_t (by decide) ?_
  refine br_t (by decide) ⟨5, ?_⟩
  refine pk_le 4 0 (fun z => absurd z (by omega)) (fun _ => ⟨pk_in 0 4 (by decide), nm_r (qp_up 0) (nm_r (e' := nI 1) (by decide) ?_)⟩)
  refine pk_le 4 1 (fun z => absurd z (by omega)) (fun _ => ⟨pk_in 1 4 (by decide), nm_r (qp_up 1) (nm_r (e' := nI 2) (by decide) ?_)⟩)
  refine pk_le 4 2 (fun z => absurd z (by omega)) (fun _ => ⟨pk_in 2 4 (by decide), nm_r (qp_up 2) (nm_r (e' := nI 3) (by decide) ?_)⟩)
  refine pk_le 4 3 (fun z => absurd z (by omega)) (fun _ => ⟨pk_in 3 4 (by decide), nm_r (qp_up 3) (nm_r (e' := nI 4) (by decide) ?_)⟩)
  exact pk_le 4 4 (fun _ => hp) (fun z => absurd z (by omega))
/-- all that runs before the law looks at the answers -/
theorem qp_pre {post : Int32 → St0 → Prop} {k1 k2 m1 m2 w1 w2 : Int32} (hl1 : (qp_row m1 m2 w1 w2 k1 []).length ≤ 2) (hl2 : (qp_row m1 m2 w1 w2 k2 (qp_row m1 m2 w1 w2 k1 [])).length ≤ 2)
    (H : ∀ (tb nd cl mp wd nr lo rr rz : Int32) (a1 a2 a3 a4 a5 a6 a7 a8 a9 a10 a11 a12 a13 a14 a15 a16 a17 a18 a19 a20 a21 a22 a23 a24 a25 a26 a27 a28 a29 a30 : Nat → Int32), nd = nI 4 → a11 2 = 4 → rz = 2 → qp_Res (qp_row m1 m2 w1 w2 k2 (qp_row m1 m2 w1 w2 k1 [])) rr a30 →
      ((m1 = k1 → wL_lawOf_113 post 31 3691 k1 k2 m1 m2 w1 w2 2 3 rr 1 (1 + 30) (39 + 3652) tb nd cl mp wd nr lo rr rz a1 a2 a3 a4 a5 a6 a7 a8 a9 a10 a11 a12 a13 a14 a15 a16 a17 a18 a19 a20 a21 a22 a23 a24 a25 a26 a27 a28 a29 a30) ∧ (¬ m1 = k1 → wL_lawOf_113 post 31 3691 k1 k2 m1 m2 w1 w2 2 3 rr 0 (1 + 30) (39 + 3652) tb nd cl mp wd nr lo rr rz a1 a2 a3 a4 a5 a6 a7 a8 a9 a10 a11 a12 a13 a14 a15 a16 a17 a18 a19 a20 a21 a22 a23 a24 a25 a26 a27 a28 a29 a30))) :
    wpL_lawOf post 31 3691 () k1 k2 m1 m2 w1 w2 := by
  unfold wpL_lawOf
  refine ⟨by decide, by decide, 30, 3652, by decide, by decide, ?_⟩
  refine qp_init ?_
  refine qp_addRow 0 0 (by decide) (by decide) rfl ?_
  refine qp_addRow 0 1 (by decide) (by decide) rfl ?_
  refine qp_addRow 1 0 (by decide) (by decide) rfl ?_
  refine qp_addRow 1 1 (by decide) (by decide) rfl ?_
  refine qp_scan 0 0 2 (by decide) (by decide) rfl ?_
  refine qp_scan 1 1 2 (by decide) (by decide) rfl ?_
  refine qp_joinP rfl rfl rfl rfl ?_ rfl rfl rfl
  refine qp_groupP rfl rfl ?_ rfl rfl
  refine qp_run rfl rfl rfl rfl rfl rfl rfl rfl rfl rfl rfl rfl rfl rfl rfl rfl rfl rfl rfl rfl rfl rfl rfl rfl ?_ rfl rfl
  intro cl mp wd nr lo a12 a13 a14 a15 a16 a17 a18 a19 a20 Q hC hQ
  refine qp_all (k1 := k1) (k2 := k2) (m1 := m1) (m2 := m2) (w1 := w1) (w2 := w2) hC ⟨rfl, rfl, rfl, rfl, rfl, rfl, rfl, rfl, rfl, rfl, rfl, rfl, rfl, rfl, rfl, rfl, rfl, rfl, rfl, rfl⟩ hl1 hl2 ?_
  intro rr a21 a22 a23 a24 a25 a26 a27 a28 a29 a30 hR
  refine hQ _ _ _ _ _ _ _ _ _ _ _ _ _ _ _ _ _ _ _ _ _ _ _ _ _ _ _ _ _ _ _ _ _ _ _ _ _ _ _ rfl ?_
  exact H _ _ _ _ _ _ _ _ _ _ _ _ _ _ _ _ _ _ _ _ _ _ _ _ _ _ _ _ _ _ _ _ _ _ _ _ _ _ _ rfl rfl rfl hR
theorem qp_width {post : Int32 → Prop} {tb nd cl mp wd nr lo rr rz : Int32} {a1 a2 a3 a4 a5 a6 a7 a8 a9 a10 a11 a12 a13 a14 a15 a16 a17 a18 a19 a20 a21 a22 a23 a24 a25 a26 a27 a28 a29 a30 : Nat → Int32} {x : Int32} (hnd : nd = nI 4) (h : a11 2 = 4) (hp : post 4) (hx : x = nI 2 := by rfl) : wpX_width post (tb, nd, cl, mp, wd, nr, lo, rr, rz, a1, a2, a3, a4, a5, a6, a7, a8, a9, a10, a11, a12, a13, a14, a15, a16, a17, a18, a19, a20, a21, a22, a23, a24, a25, a26, a27, a28, a29, a30) x := by
  unfold wpX_width
  refine qp_noNode 2 4 (by decide) (by decide) (br_t rfl ⟨pk_in 2 12 (by decide) hx, ?_⟩) hx hnd
  rw [qp_at 2 h hx]
  exact hp
theorem qp_cell {post : Int32 → Prop} {tb nd cl mp wd nr lo rr rz : Int32} {a1 a2 a3 a4 a5 a6 a7 a8 a9 a10 a11 a12 a13 a14 a15 a16 a17 a18 a19 a20 a21 a22 a23 a24 a25 a26 a27 a28 a29 a30 : Nat → Int32} {x y : Int32} (i j n : Nat) (v : Int32) (hj : j < 2) (hn : n ≤ 2) (hi : i < n) (h : a30 (i * 6 + j) = v) (hp : post v) (hr : rr = nI n) (hz : rz = 2) (hx : x = nI i := by rfl) (hy : y = nI j := by rfl) : wpX_cell post (tb, nd, cl, mp, wd, nr, lo, rr, rz, a1, a2, a3, a4, a5, a6, a7, a8, a9, a10, a11, a12, a13, a14, a15, a16, a17, a18, a19, a20, a21, a22, a23, a24, a25, a26, a27, a28, a29, a30) x y := by
  subst hr hz hx hy
  have x0 : nI i * 6 + nI j = nI (i * 6 + j) := by
    show nI i * nI 6 + nI j = nI (i * 6 + j)
    rw [pk_mul, nI_add]
  unfold wpX_cell
  refine br_f (nI_pos (by omega)) (pk_le n i (fun z => absurd z (by omega)) (fun _ => br_f (nI_pos (by omega)) (pk_lt j 2 (fun _ => ⟨pk_in _ 144 (by omega) x0, ?_⟩) (fun z => absurd z (by omega)))))
  rw [qp_at _ h x0]
  exact hp
theorem qp_cellO {post : Int32 → Prop} {tb nd cl mp wd nr lo rr rz : Int32} {a1 a2 a3 a4 a5 a6 a7 a8 a9 a10 a11 a12 a13 a14 a15 a16 a17 a18 a19 a20 a21 a22 a23 a24 a25 a26 a27 a28 a29 a30 : Nat → Int32} {x y : Int32} (i n : Nat) (hn : n ≤ 2) (hi : n ≤ i) (hi2 : i < 10) (hp : post 0) (hr : rr = nI n) (hx : x = nI i := by rfl) : wpX_cell post (tb, nd, cl, mp, wd, nr, lo, rr, rz, a1, a2, a3, a4, a5, a6, a7, a8, a9, a10, a11, a12, a13, a14, a15, a16, a17, a18, a19, a20, a21, a22, a23, a24, a25, a26, a27, a28, a29, a30) x y := by
  subst hr hx
  unfold wpX_cell
  exact br_f (nI_pos (by omega)) (pk_le n i (fun _ => hp) (fun z => absurd z (by omega)))
theorem qp_rowT {post : Int32 → Prop} {tb nd cl mp wd nr lo rr rz : Int32} {a1 a2 a3 a4 a5 a6 a7 a8 a9 a10 a11 a12 a13 a14 a15 a16 a17 a18 a19 a20 a21 a22 a23 a24 a25 a26 a27 a28 a29 a30 : Nat → Int32} {x u v : Int32} (i n : Nat) (hn : n ≤ 2) (hi : i < n) (h0 : a30 (i * 6) = u) (h1 : a30 (i * 6 + 1) = v) (hp : post 1) (hr : rr = nI n) (hz : rz = 2) (hx : x = nI i := by rfl) : wpL_row post (tb, nd, cl, mp, wd, nr, lo, rr, rz, a1, a2, a3, a4, a5, a6, a7, a8, a9, a10, a11, a12, a13, a14, a15, a16, a17, a18, a19, a20, a21, a22, a23, a24, a25, a26, a27, a28, a29, a30) x u v := by
  unfold wpL_row
  exact qp_cell i 0 n u (by decide) hn hi h0 (br_t rfl (qp_cell i 1 n v (by decide) hn hi h1 (br_t rfl hp) hr hz hx)) hr hz hx
theorem qp_rowO {post : Int32 → Prop} {tb nd cl mp wd nr lo rr rz : Int32} {a1 a2 a3 a4 a5 a6 a7 a8 a9 a10 a11 a12 a13 a14 a15 a16 a17 a18 a19 a20 a21 a22 a23 a24 a25 a26 a27 a28 a29 a30 : Nat → Int32} {x : Int32} (i n : Nat) (hn : n ≤ 2) (hi : n ≤ i) (hi2 : i < 10) (hp : post 1) (hr : rr = nI n) (hx : x = nI i := by rfl) : wpL_row post (tb, nd, cl, mp, wd, nr, lo, rr, rz, a1, a2, a3, a4, a5, a6, a7, a8, a9, a10, a11, a12, a13, a14, a15, a16, a17, a18, a19, a20, a21, a22, a23, a24, a25, a26, a27, a28, a29, a30) x 0 0 := by
  unfold wpL_row
  exact qp_cellO i n hn hi hi2 (br_t rfl (qp_cellO i n hn hi hi2 (br_t rfl hp) hr hx)) hr hx
/-- the law's own sums, and its last look: n1, s1, n2 and the two parts of s2 -/
def qp_fin (k1 k2 rr n1 s1 n2 s2 : Int32) (a30 : Nat → Int32) : Prop :=
  if k1 = k2 then (if n1 = 0 then rr = 0 else rr = 1 ∧ a30 0 = k1 ∧ a30 1 = s1 + s1)
  else if n1 = 0 then (if n2 = 0 then rr = 0 else rr = 1 ∧ a30 0 = k2 ∧ a30 1 = s2)
  else if n2 = 0 then (rr = 1 ∧ a30 0 = k1 ∧ a30 1 = s1)
  else (rr = 2 ∧ a30 0 = k1 ∧ a30 1 = s1 ∧ a30 6 = k2 ∧ a30 7 = s2)
theorem qp_196 {post : Int32 → St0 → Prop} {mc ms kc ks : Nat} {tb nd cl mp wd nr lo rr rz : Int32} {a1 a2 a3 a4 a5 a6 a7 a8 a9 a10 a11 a12 a13 a14 a15 a16 a17 a18 a19 a20 a21 a22 a23 a24 a25 a26 a27 a28 a29 a30 : Nat → Int32} {k1 k2 n1 s1 n2 z0 z1 : Int32} (hnd : nd = nI 4) (h112 : a11 2 = 4) (hz : rz = 2) (hf : qp_fin k1 k2 rr n1 s1 n2 (z1 + z0) a30) (hp : post 1 ()) :
    wL_lawOf_196 post mc ms k1 k2 2 3 rr n1 s1 n2 z0 z1 kc ks tb nd cl mp wd nr lo rr rz a1 a2 a3 a4 a5 a6 a7 a8 a9 a10 a11 a12 a13 a14 a15 a16 a17 a18 a19 a20 a21 a22 a23 a24 a25 a26 a27 a28 a29 a30 := by
  unfold wL_lawOf_196
  refine nm_e (br_t rfl (br_t rfl (qp_width hnd h112 (br_t rfl ?_))))
  refine (show wpX_resultRows _ (tb, nd, cl, mp, wd, nr, lo, rr, rz, a1, a2, a3, a4, a5, a6, a7, a8, a9, a10, a11, a12, a13, a14, a15, a16, a17, a18, a19, a20, a21, a22, a23, a24, a25, a26, a27, a28, a29, a30) from ?_)
  refine br_t rfl ?_
  refine (show wpX_resultWidth _ (tb, nd, cl, mp, wd, nr, lo, rr, rz, a1, a2, a3, a4, a5, a6, a7, a8, a9, a10, a11, a12, a13, a14, a15, a16, a17, a18, a19, a20, a21, a22, a23, a24, a25, a26, a27, a28, a29, a30) from ?_)
  refine br_t hz ?_
  unfold qp_fin at hf
  have hz' := hz
  by_cases g : k1 = k2
  · rw [if_pos g] at hf
    refine br_t g ?_
    by_cases g1 : n1 = 0
    · rw [if_pos g1] at hf
      exact br_t g1 (br_t hf hp)
    · rw [if_neg g1] at hf
      obtain ⟨f1, f2, f3⟩ := hf
      exact br_f g1 (br_t f1 (qp_rowT 0 1 (by decide) (by decide) f2 f3 (br_f (by decide) hp) f1 hz))
  · rw [if_neg g] at hf
    refine br_f g ?_
    by_cases g1 : n1 = 0
    · rw [if_pos g1] at hf
      refine br_t g1 ?_
      by_cases g2 : n2 = 0
      · rw [if_pos g2] at hf
        exact br_t g2 (br_t hf hp)
      · rw [if_neg g2] at hf
        obtain ⟨f1, f2, f3⟩ := hf
        exact br_f g2 (br_t f1 (qp_rowT 0 1 (by decide) (by decide) f2 f3 (br_f (by decide) hp) f1 hz))
    · rw [if_neg g1] at hf
      refine br_f g1 ?_
      by_cases g2 : n2 = 0
      · rw [if_pos g2] at hf
        obtain ⟨f1, f2, f3⟩ := hf
        exact br_t g2 (br_t f1 (qp_rowT 0 1 (by decide) (by decide) f2 f3 (br_f (by decide) (qp_rowO 1 1 (by decide) (by decide) (by decide) (br_f (by decide) hp) f1)) f1 hz))
      · rw [if_neg g2] at hf
        obtain ⟨f1, f2, f3, f4, f5⟩ := hf
        exact br_f g2 (br_t f1 (qp_rowT 0 2 (by decide) (by decide) f2 f3 (br_f (by decide) (qp_rowT 1 2 (by decide) (by decide) f4 f5 (br_f (by decide) hp) f1 hz)) f1 hz))
/-- the law's sums lead to its last look -/
theorem qp_113 {post : Int32 → St0 → Prop} {mc ms kc ks : Nat} {tb nd cl mp wd nr lo rr rz : Int32} {a1 a2 a3 a4 a5 a6 a7 a8 a9 a10 a11 a12 a13 a14 a15 a16 a17 a18 a19 a20 a21 a22 a23 a24 a25 a26 a27 a28 a29 a30 : Nat → Int32} {k1 k2 m1 m2 w1 w2 : Int32} (hnd : nd = nI 4) (h112 : a11 2 = 4) (hz : rz = 2)
    (hf : qp_fin k1 k2 rr ((if m1 = k1 then 1 else 0) + (if m2 = k1 then 1 else 0)) ((if m1 = k1 then w1 else 0) + (if m2 = k1 then w2 else 0)) ((if m1 = k2 then 1 else 0) + (if m2 = k2 then 1 else 0)) ((if m1 = k2 then w1 else 0) + (if m2 = k2 then w2 else 0)) a30) (hp : post 1 ()) :
    (m1 = k1 → wL_lawOf_113 post mc ms k1 k2 m1 m2 w1 w2 2 3 rr 1 kc ks tb nd cl mp wd nr lo rr rz a1 a2 a3 a4 a5 a6 a7 a8 a9 a10 a11 a12 a13 a14 a15 a16 a17 a18 a19 a20 a21 a22 a23 a24 a25 a26 a27 a28 a29 a30) ∧ (¬ m1 = k1 → wL_lawOf_113 post mc ms k1 k2 m1 m2 w1 w2 2 3 rr 0 kc ks tb nd cl mp wd nr lo rr rz a1 a2 a3 a4 a5 a6 a7 a8 a9 a10 a11 a12 a13 a14 a15 a16 a17 a18 a19 a20 a21 a22 a23 a24 a25 a26 a27 a28 a29 a30) := by
  have d : ∀ (c : Prop) [Decidable c] (A : Int32 → Prop) (u v : Int32), A (if c then u else v) → (c → A u) ∧ (¬ c → A v) := by
    intro c _ A u v h
    exact ⟨fun z => by rw [if_pos z] at h; exact h, fun z => by rw [if_neg z] at h; exact h⟩
  refine d (m1 = k1) (fun z => wL_lawOf_113 post mc ms k1 k2 m1 m2 w1 w2 2 3 rr z kc ks tb nd cl mp wd nr lo rr rz a1 a2 a3 a4 a5 a6 a7 a8 a9 a10 a11 a12 a13 a14 a15 a16 a17 a18 a19 a20 a21 a22 a23 a24 a25 a26 a27 a28 a29 a30) 1 0 ?_
  refine d (m2 = k1) (fun z => wL_lawOf_123 post mc ms k1 k2 m1 m2 w1 w2 2 3 rr z _ kc ks tb nd cl mp wd nr lo rr rz a1 a2 a3 a4 a5 a6 a7 a8 a9 a10 a11 a12 a13 a14 a15 a16 a17 a18 a19 a20 a21 a22 a23 a24 a25 a26 a27 a28 a29 a30) 1 0 ?_
  refine nm_e ?_
  refine d (m1 = k1) (fun z => wL_lawOf_137 post mc ms k1 k2 m1 m2 w1 w2 2 3 rr _ z kc ks tb nd cl mp wd nr lo rr rz a1 a2 a3 a4 a5 a6 a7 a8 a9 a10 a11 a12 a13 a14 a15 a16 a17 a18 a19 a20 a21 a22 a23 a24 a25 a26 a27 a28 a29 a30) w1 0 ?_
  refine d (m2 = k1) (fun z => wL_lawOf_148 post mc ms k1 k2 m1 m2 w1 w2 2 3 rr _ z _ kc ks tb nd cl mp wd nr lo rr rz a1 a2 a3 a4 a5 a6 a7 a8 a9 a10 a11 a12 a13 a14 a15 a16 a17 a18 a19 a20 a21 a22 a23 a24 a25 a26 a27 a28 a29 a30) w2 0 ?_
  refine nm_e ?_
  refine d (m1 = k2) (fun z => wL_lawOf_161 post mc ms k1 k2 m1 m2 w1 w2 2 3 rr _ _ z kc ks tb nd cl mp wd nr lo rr rz a1 a2 a3 a4 a5 a6 a7 a8 a9 a10 a11 a12 a13 a14 a15 a16 a17 a18 a19 a20 a21 a22 a23 a24 a25 a26 a27 a28 a29 a30) 1 0 ?_
  refine d (m2 = k2) (fun z => wL_lawOf_171 post mc ms k1 k2 m1 m2 w1 w2 2 3 rr _ _ z _ kc ks tb nd cl mp wd nr lo rr rz a1 a2 a3 a4 a5 a6 a7 a8 a9 a10 a11 a12 a13 a14 a15 a16 a17 a18 a19 a20 a21 a22 a23 a24 a25 a26 a27 a28 a29 a30) 1 0 ?_
  refine nm_e ?_
  refine d (m1 = k2) (fun z => wL_lawOf_185 post mc ms k1 k2 m2 w2 2 3 rr _ _ _ z kc ks tb nd cl mp wd nr lo rr rz a1 a2 a3 a4 a5 a6 a7 a8 a9 a10 a11 a12 a13 a14 a15 a16 a17 a18 a19 a20 a21 a22 a23 a24 a25 a26 a27 a28 a29 a30) w1 0 ?_
  refine d (m2 = k2) (fun z => wL_lawOf_196 post mc ms k1 k2 2 3 rr _ _ _ z _ kc ks tb nd cl mp wd nr lo rr rz a1 a2 a3 a4 a5 a6 a7 a8 a9 a10 a11 a12 a13 a14 a15 a16 a17 a18 a19 a20 a21 a22 a23 a24 a25 a26 a27 a28 a29 a30) w2 0 ?_
  exact qp_196 hnd h112 hz hf hp
/-- the groups are what the law says -/
theorem qp_pure (k1 k2 m1 m2 w1 w2 rr : Int32) (a30 : Nat → Int32) :
    (qp_row m1 m2 w1 w2 k1 []).length ≤ 2 ∧ (qp_row m1 m2 w1 w2 k2 (qp_row m1 m2 w1 w2 k1 [])).length ≤ 2 ∧
    (qp_Res (qp_row m1 m2 w1 w2 k2 (qp_row m1 m2 w1 w2 k1 [])) rr a30 → qp_fin k1 k2 rr ((if m1 = k1 then 1 else 0) + (if m2 = k1 then 1 else 0)) ((if m1 = k1 then w1 else 0) + (if m2 = k1 then w2 else 0)) ((if m1 = k2 then 1 else 0) + (if m2 = k2 then 1 else 0)) ((if m1 = k2 then w1 else 0) + (if m2 = k2 then w2 else 0)) a30) := by
  have t2 : ¬ (1 : Int32) + 1 = 0 := by decide
  have t10 : ¬ (1 : Int32) + 0 = 0 := by decide
  have t01 : ¬ (0 : Int32) + 1 = 0 := by decide
  have t00 : (0 : Int32) + 0 = 0 := by decide
  have a0 : ∀ x : Int32, x + 0 = x := fun x => Int32.add_zero x
  have b0 : ∀ x : Int32, 0 + x = x := fun x => Int32.zero_add x
  by_cases g : k1 = k2
  · subst g
    by_cases p : m1 = k1 <;> by_cases q : m2 = k1 <;> simp [qp_row, qp_gf, qp_Res, qp_fin, p, q, t2, t10, t01, t00, a0, b0, Int32.add_assoc]
  · have g' : ¬ k2 = k1 := fun z => g z.symm
    by_cases p : m1 = k1
    · subst p
      by_cases q : m2 = m1
      · subst q
        simp [qp_row, qp_gf, qp_Res, qp_fin, g, g', t2, t10, t01, t00, a0, b0]
      · by_cases q2 : m2 = k2
        · subst q2
          simp [qp_row, qp_gf, qp_Res, qp_fin, g, g', q, t2, t10, t01, t00, a0, b0]
        · simp [qp_row, qp_gf, qp_Res, qp_fin, g, g', q, q2, t2, t10, t01, t00, a0, b0]
    · by_cases p2 : m1 = k2
      · subst p2
        by_cases q : m2 = k1
        · subst q
          simp [qp_row, qp_gf, qp_Res, qp_fin, g, g', p, t2, t10, t01, t00, a0, b0]
        · by_cases q2 : m2 = m1
          · subst q2
            simp [qp_row, qp_gf, qp_Res, qp_fin, g, g', p, q, t2, t10, t01, t00, a0, b0]
          · simp [qp_row, qp_gf, qp_Res, qp_fin, g, g', p, q, q2, t2, t10, t01, t00, a0, b0]
      · by_cases q : m2 = k1
        · subst q
          simp [qp_row, qp_gf, qp_Res, qp_fin, g, g', p, p2, t2, t10, t01, t00, a0, b0]
        · by_cases q2 : m2 = k2
          · subst q2
            simp [qp_row, qp_gf, qp_Res, qp_fin, g, g', p, p2, q, t2, t10, t01, t00, a0, b0]
          · simp [qp_row, qp_gf, qp_Res, qp_fin, g, g', p, p2, q, q2, t2, t10, t01, t00, a0, b0]
theorem qp_law {k1 k2 m1 m2 w1 w2 : Int32} {post : Int32 → St0 → Prop} (hp : post 1 ()) : wpL_lawOf post 31 3691 () k1 k2 m1 m2 w1 w2 := by
  refine qp_pre (qp_pure k1 k2 m1 m2 w1 w2 0 (fun _ => 0)).1 (qp_pure k1 k2 m1 m2 w1 w2 0 (fun _ => 0)).2.1 ?_
  intro tb nd cl mp wd nr lo rr rz a1 a2 a3 a4 a5 a6 a7 a8 a9 a10 a11 a12 a13 a14 a15 a16 a17 a18 a19 a20 a21 a22 a23 a24 a25 a26 a27 a28 a29 a30 hnd h112 hz hR
  exact qp_113 hnd h112 hz ((qp_pure k1 k2 m1 m2 w1 w2 rr a30).2.2 hR) hp
end
section
theorem qp_cellAt {post : Int32 → Prop} (L : Nat) (xs : Nat → Int32) (u : St0) (i : Nat) {x : Int32} (hi : i < 6) (hL : L ≤ 6) (hp : ∀ v, post v) (hx : x = nI i := by rfl) : wpL_cellAt post L xs u x := by
  subst hx
  unfold wpL_cellAt
  exact pk_le L i (fun _ => hp _) (fun z => ⟨pk_in i L z rfl (by omega), hp _⟩)
theorem i_vc (xs : Nat → Int32) (L : Nat) (hL : L ≤ 6) : wpL_law (fun r => r = 1) L xs := by
  unfold wpL_law
  refine qp_cellAt L xs () 0 (by decide) hL (fun v1 => ?_)
  refine qp_cellAt L xs () 1 (by decide) hL (fun v2 => ?_)
  refine qp_cellAt L xs () 2 (by decide) hL (fun v3 => ?_)
  refine qp_cellAt L xs () 3 (by decide) hL (fun v4 => ?_)
  refine qp_cellAt L xs () 4 (by decide) hL (fun v5 => ?_)
  refine qp_cellAt L xs () 5 (by decide) hL (fun v6 => ?_)
  exact ⟨31, 3691, by decide, by decide, qp_law rfl⟩
end
