section
/-! ===== indices, readings, stores ===== -/
theorem ds_i8 (n d : Nat) : 8 * nI n + nI d = nI (8 * n + d) := by
  rw [show (8 : Int32) = nI 8 from rfl, pk_mul, nI_add]
theorem ds_i80 (n d : Nat) : 80 * nI n + nI d = nI (80 * n + d) := by
  rw [show (80 : Int32) = nI 80 from rfl, pk_mul, nI_add]
theorem ds_i3 (n d : Nat) : 3 * nI n + nI d = nI (3 * n + d) := by
  rw [show (3 : Int32) = nI 3 from rfl, pk_mul, nI_add]
theorem ds_ib (n d : Nat) : 640 * nI n + 80 * nI d = nI (640 * n + 80 * d) := by
  rw [show (640 : Int32) = nI 640 from rfl, show (80 : Int32) = nI 80 from rfl, pk_mul, pk_mul, nI_add]
theorem ds_ik (n d k : Nat) : 640 * nI n + 80 * nI d + nI k = nI (640 * n + 80 * d + k) := by
  rw [ds_ib, nI_add]
theorem ds_m1 {r : Nat} (h : r < 2 ^ 31) : ¬ nI r = -1 := by
  intro z
  have e := congrArg Int32.toInt z
  rw [nI_toInt h, show (-1 : Int32).toInt = -1 from by decide] at e
  omega
theorem ds_g {f : Nat → Int32} {i j : Nat} {v : Int32} (hi : i = j) (hv : f j = v) : f i = v := by
  rw [hi]; exact hv
theorem ds_gn {f : Nat → Int32} {i j : Nat} {v : Int32} (hi : i = j) (hv : ¬ f j = v) : ¬ f i = v := by
  rw [hi]; exact hv
theorem ds_g1 {f : Nat → Int32} {i j c : Nat} (hi : i = j) (hv : f j = nI c) : f i + 1 = nI (c + 1) := by
  rw [hi, hv, nI_1]
theorem ds_u {f : Nat → Int32} {i j : Nat} {x y : Int32} (hi : i = j) (hx : x = y) : upd f i x = upd f j y := by
  rw [hi, hx]
/-! ===== questions of the small kind ===== -/
section
variable {post : Int32 → Prop} {f : Int32} {a1 a2 a3 a4 a5 a6 a7 a8 a9 a10 a11 a12 a13 a14 a15 a16 a17 a18 a19 a20 a21 a22 : Nat → Int32} {n d k r c : Nat} {x v : Int32}
theorem ds_bs (hn : n < 3) (H : post 0) : wpX_badStore post (f, a1, a2, a3, a4, a5, a6, a7, a8, a9, a10, a11, a12, a13, a14, a15, a16, a17, a18, a19, a20, a21, a22) (nI n) :=
  pk_lt n 0 (fun z => absurd z (by omega)) (fun _ => pk_lt n 3 (fun _ => H) (fun z => absurd z (by omega)))
theorem ds_bd (hd : d < 8) (H : post 0) : wpX_badDocument post (f, a1, a2, a3, a4, a5, a6, a7, a8, a9, a10, a11, a12, a13, a14, a15, a16, a17, a18, a19, a20, a21, a22) (nI d) :=
  pk_lt d 0 (fun z => absurd z (by omega)) (fun _ => pk_lt d 8 (fun _ => H) (fun z => absurd z (by omega)))
theorem ds_la (hn : n < 3) (hd : d < 8) (hk : k < 80) (e : a13 (640 * n + 80 * d + k) = v) (H : post v) : wpX_leafAt post (f, a1, a2, a3, a4, a5, a6, a7, a8, a9, a10, a11, a12, a13, a14, a15, a16, a17, a18, a19, a20, a21, a22) (nI n) (nI d) (nI k) :=
  ⟨pk_in (640 * n + 80 * d + k) 1920 (by omega) (ds_ik n d k), sb_at (ds_g (pk_cl _ (ds_ik n d k)) e) H⟩
theorem ds_fw0 (hn : n < 3) (hd : d < 8) (h12 : a12 (8 * n + d) = 0) (H : post (-1)) : wpX_findWinner post (f, a1, a2, a3, a4, a5, a6, a7, a8, a9, a10, a11, a12, a13, a14, a15, a16, a17, a18, a19, a20, a21, a22) (nI n) (nI d) :=
  ⟨pk_in (8 * n + d) 24 (by omega) (ds_i8 n d), nm_r (ds_g (pk_cl _ (ds_i8 n d)) h12)
    ⟨1, pk_le 0 0 (fun _ => br_t rfl H) (fun z => absurd z (by omega))⟩⟩
theorem ds_fw1 (hn : n < 3) (hd : d < 8) (hc : c < 79) (h12 : a12 (8 * n + d) = nI (c + 1)) (h13 : a13 (640 * n + 80 * d) = nI r) (hr : r < 80) (h4 : a4 r = 0) (H : post (nI r)) :
    wpX_findWinner post (f, a1, a2, a3, a4, a5, a6, a7, a8, a9, a10, a11, a12, a13, a14, a15, a16, a17, a18, a19, a20, a21, a22) (nI n) (nI d) :=
  ⟨pk_in (8 * n + d) 24 (by omega) (ds_i8 n d), nm_r (ds_g (pk_cl _ (ds_i8 n d)) h12)
    ⟨1, pk_le (c + 1) 0 (fun z => absurd z (by omega)) (fun _ => ds_la (k := 0) hn hd (by omega) h13 ⟨pk_in r 80 hr, br_t (ds_g (pk_cl r) h4) H⟩)⟩⟩
theorem ds_fr0 (hd : d < 8) (h8 : a8 d = -1) (H : post (-1)) : wpX_findRevision post (f, a1, a2, a3, a4, a5, a6, a7, a8, a9, a10, a11, a12, a13, a14, a15, a16, a17, a18, a19, a20, a21, a22) (nI d) (-1) x 0 :=
  br_t rfl ⟨pk_in d 8 hd, nm_r (ds_g (pk_cl d) h8) ⟨1, pk_le 80 0 (fun z => absurd z (by omega)) (fun _ => br_t rfl H)⟩⟩
theorem ds_fr1 (hd : d < 8) (h8 : a8 d = nI r) (hr : r < 80) (h3 : a3 r = x) (h4 : a4 r = 0) (H : post (nI r)) : wpX_findRevision post (f, a1, a2, a3, a4, a5, a6, a7, a8, a9, a10, a11, a12, a13, a14, a15, a16, a17, a18, a19, a20, a21, a22) (nI d) (-1) x 0 :=
  br_t rfl ⟨pk_in d 8 hd, nm_r (ds_g (pk_cl d) h8) ⟨1, pk_le 80 0 (fun z => absurd z (by omega)) (fun _ => br_f (ds_m1 (by omega))
    ⟨pk_in r 80 hr, br_t (ds_g (pk_cl r) h3) ⟨pk_in r 80 hr, br_t (ds_g (pk_cl r) h4) H⟩⟩)⟩⟩
theorem ds_fr2 (hd : d < 8) (h8 : a8 d = nI r) (hr : r < 80) (h3 : ¬ a3 r = x) (h7 : a7 r = -1) (H : post (-1)) : wpX_findRevision post (f, a1, a2, a3, a4, a5, a6, a7, a8, a9, a10, a11, a12, a13, a14, a15, a16, a17, a18, a19, a20, a21, a22) (nI d) (-1) x 0 :=
  br_t rfl ⟨pk_in d 8 hd, nm_r (ds_g (pk_cl d) h8) ⟨2, pk_le 80 0 (fun z => absurd z (by omega)) (fun _ => br_f (ds_m1 (by omega))
    ⟨pk_in r 80 hr, br_f (ds_gn (pk_cl r) h3) ⟨pk_in r 80 hr, nm_r (ds_g (pk_cl r) h7) (nm_r (nI_1 0) (pk_le 80 1 (fun z => absurd z (by omega)) (fun _ => br_t rfl H)))⟩⟩)⟩⟩
end
/-! ===== a revision is made ===== -/
section
variable {post : Int32 → St2 → Prop} {a1 a2 a3 a4 a5 a6 a7 a8 a9 a10 a11 a12 a13 a14 a15 a16 a17 a18 a19 a20 a21 a22 : Nat → Int32} {d c : Nat} {x z v : Int32}
theorem ds_mr97 (hd : d < 8) (hc : c < 80) (hz : z = v) (H : post (nI c) (nI (c + 1), a1, a2, a3, a4, a5, a6, upd a7 c v, upd a8 d (nI c), a9, a10, a11, a12, a13, a14, a15, a16, a17, a18, a19, a20, a21, a22)) :
    wX_makeRevision_97 post (nI d) (-1) (nI c) z (nI c) (nI c) a1 a2 a3 a4 a5 a6 a7 a8 a9 a10 a11 a12 a13 a14 a15 a16 a17 a18 a19 a20 a21 a22 :=
  ⟨pk_in c 80 hc, nm_r (ds_u (pk_cl c) hz) (br_t rfl ⟨pk_in d 8 hd, nm_r (ds_u (pk_cl d) rfl) (nm_r (nI_1 c) H)⟩)⟩
theorem ds_mr62 (hd : d < 8) (hc : c < 80) (h8 : a8 d = v) (H : post (nI c) (nI (c + 1), a1, a2, a3, a4, upd a5 c z, upd a6 c (-1), upd a7 c v, upd a8 d (nI c), a9, a10, a11, a12, a13, a14, a15, a16, a17, a18, a19, a20, a21, a22)) :
    wX_makeRevision_62 post (nI d) (-1) (nI c) z (nI c) (nI c) a1 a2 a3 a4 a5 a6 a7 a8 a9 a10 a11 a12 a13 a14 a15 a16 a17 a18 a19 a20 a21 a22 :=
  ⟨pk_in c 80 hc, nm_r (ds_u (pk_cl c) rfl) ⟨pk_in c 80 hc, nm_r (ds_u (pk_cl c) rfl) (br_t rfl ⟨pk_in d 8 hd, ds_mr97 hd hc (ds_g (pk_cl d) h8) H⟩)⟩⟩
theorem ds_mr (hd : d < 8) (hc : c < 80) (h8 : a8 d = v)
    (H : post (nI c) (nI (c + 1), upd a1 c (nI d), upd a2 c (-1), upd a3 c x, upd a4 c 0, upd a5 c 1, upd a6 c (-1), upd a7 c v, upd a8 d (nI c), a9, a10, a11, a12, a13, a14, a15, a16, a17, a18, a19, a20, a21, a22)) :
    wpX_makeRevision post (nI c, a1, a2, a3, a4, a5, a6, a7, a8, a9, a10, a11, a12, a13, a14, a15, a16, a17, a18, a19, a20, a21, a22) (nI d) (-1) x 0 :=
  ⟨pk_in c 80 hc, nm_r (ds_u (pk_cl c) rfl) ⟨pk_in c 80 hc, nm_r (ds_u (pk_cl c) rfl) ⟨pk_in c 80 hc, nm_r (ds_u (pk_cl c) rfl) ⟨pk_in c 80 hc, nm_r (ds_u (pk_cl c) (show vp_nar .boolean 0 = 0 from rfl)) (br_t rfl (ds_mr62 hd hc h8 H))⟩⟩⟩⟩
end
end
section
/-! ===== which leaf comes first ===== -/
section
variable {post : St2 → Prop} {f : Int32} {a1 a2 a3 a4 a5 a6 a7 a8 a9 a10 a11 a12 a13 a14 a15 a16 a17 a18 a19 a20 a21 a22 : Nat → Int32} {p q : Nat}
theorem ds_fp (hp : p < 80) (hq : q < 80) (h5 : a5 p = 1) (H : post (f, a1, a2, a3, a4, a5, a6, a7, a8, a9, a10, a11, a12, a13, a14, a15, a16, a17, a18, a19, a20, upd a21 0 (nI p), upd a22 0 (nI q))) : wpX_findPaths post (f, a1, a2, a3, a4, a5, a6, a7, a8, a9, a10, a11, a12, a13, a14, a15, a16, a17, a18, a19, a20, a21, a22) (nI p) (nI q) := by
  have e : a5 (nI p).toNatClampNeg - 1 = 0 := by
    rw [nI_clamp (by omega), h5]; rfl
  exact ⟨pk_in p 80 hp, nm_r e ⟨2, br_f (by decide) ⟨pk_in 0 80 (by omega), nm_r (ds_u (pk_cl 0) rfl) ⟨pk_in 0 80 (by omega), nm_r (ds_u (pk_cl 0) rfl)
    ⟨pk_in p 80 hp, nm_e ⟨pk_in q 80 hq, nm_e (nm_e (br_t (by decide) H))⟩⟩⟩⟩⟩⟩
end
section
variable {post : Int32 → St2 → Prop} {f : Int32} {a1 a2 a3 a4 a5 a6 a7 a8 a9 a10 a11 a12 a13 a14 a15 a16 a17 a18 a19 a20 a21 a22 : Nat → Int32} {p q : Nat}
theorem ds_cf90 (h21 : a21 0 = nI p) (h22 : a22 0 = nI q) (hp : p < 80) (hq : q < 80) (hne : ¬ a3 p = a3 q) (H0 : a3 p ≤ a3 q → post 0 (f, a1, a2, a3, a4, a5, a6, a7, a8, a9, a10, a11, a12, a13, a14, a15, a16, a17, a18, a19, a20, a21, a22)) (H1 : ¬ a3 p ≤ a3 q → post 1 (f, a1, a2, a3, a4, a5, a6, a7, a8, a9, a10, a11, a12, a13, a14, a15, a16, a17, a18, a19, a20, a21, a22)) :
    wX_comesFirst_90 post 0 f a1 a2 a3 a4 a5 a6 a7 a8 a9 a10 a11 a12 a13 a14 a15 a16 a17 a18 a19 a20 a21 a22 := by
  refine ⟨pk_in 0 80 (by omega), nm_r (ds_g (pk_cl 0) h21) ⟨pk_in 0 80 (by omega), nm_r (ds_g (pk_cl 0) h22) ?_⟩⟩
  rw [nI_clamp (show p < 2 ^ 31 by omega), nI_clamp (show q < 2 ^ 31 by omega)]
  exact ⟨pk_in p 80 hp, pk_in q 80 hq, br_f hne ⟨pk_in p 80 hp, pk_in q 80 hq, br_c H0 H1⟩⟩
theorem ds_cf (hp : p < 80) (hq : q < 80) (h5p : a5 p = 1) (h5q : a5 q = 1) (hne : ¬ a3 p = a3 q)
    (H0 : a3 p ≤ a3 q → post 0 (f, a1, a2, a3, a4, a5, a6, a7, a8, a9, a10, a11, a12, a13, a14, a15, a16, a17, a18, a19, a20, upd a21 0 (nI p), upd a22 0 (nI q))) (H1 : ¬ a3 p ≤ a3 q → post 1 (f, a1, a2, a3, a4, a5, a6, a7, a8, a9, a10, a11, a12, a13, a14, a15, a16, a17, a18, a19, a20, upd a21 0 (nI p), upd a22 0 (nI q))) :
    wpX_comesFirst post (f, a1, a2, a3, a4, a5, a6, a7, a8, a9, a10, a11, a12, a13, a14, a15, a16, a17, a18, a19, a20, a21, a22) (nI p) (nI q) :=
  ⟨pk_in p 80 hp, pk_in q 80 hq, br_t ((ds_g (pk_cl p) h5p).trans (ds_g (pk_cl q) h5q).symm) (ds_fp hp hq h5p
    ⟨1, pk_le 80 0 (fun z => absurd z (by omega)) (fun _ => ⟨pk_in p 80 hp, pk_le 1 1 (fun _ => ds_cf90 pk_us pk_us hp hq hne H0 H1) (fun z => absurd z (by omega)) (ds_g (pk_cl p) h5p)⟩)⟩)⟩
end
/-! ===== a leaf is put ===== -/
section
variable {post : St2 → Prop} {f : Int32} {a1 a2 a3 a4 a5 a6 a7 a8 a9 a10 a11 a12 a13 a14 a15 a16 a17 a18 a19 a20 a21 a22 : Nat → Int32} {t b k r c q n d : Nat} {v : Int32}
theorem ds_p108a (ht : t < 24) (hb : b + k < 1920) (h12 : a12 t = nI c) (H : post (f, a1, a2, a3, a4, a5, a6, a7, a8, a9, a10, a11, upd a12 t (nI (c + 1)), upd a13 (b + k) (nI r), a14, a15, a16, a17, a18, a19, a20, a21, a22)) :
    ∃ fu, wX_putLeaf_108 post (nI r) (nI t) (nI b) (nI k) f fu (nI k) a1 a2 a3 a4 a5 a6 a7 a8 a9 a10 a11 a12 a13 a14 a15 a16 a17 a18 a19 a20 a21 a22 :=
  ⟨1, pk_le k k (fun _ => ⟨pk_in (b + k) 1920 hb (nI_add b k), nm_r (ds_u (pk_cl _ (nI_add b k)) rfl) ⟨pk_in t 24 ht, pk_in t 24 ht, nm_r (ds_u (pk_cl t) (ds_g1 (pk_cl t) h12)) H⟩⟩) (fun z => absurd z (by omega))⟩
theorem ds_p108b (ht : t < 24) (hb : b + 1 < 1920) (h12 : a12 t = nI c) (h13 : a13 b = v) (H : post (f, a1, a2, a3, a4, a5, a6, a7, a8, a9, a10, a11, upd a12 t (nI (c + 1)), upd (upd a13 (b + 1) v) b (nI r), a14, a15, a16, a17, a18, a19, a20, a21, a22)) :
    ∃ fu, wX_putLeaf_108 post (nI r) (nI t) (nI b) (nI 0) f fu (nI 1) a1 a2 a3 a4 a5 a6 a7 a8 a9 a10 a11 a12 a13 a14 a15 a16 a17 a18 a19 a20 a21 a22 := by
  have e1 : nI b + nI 1 - 1 = nI b := by rw [nI_add]; exact nI_pred b
  obtain ⟨fu, h⟩ := ds_p108a (post := post) (f := f) (a13 := upd a13 (b + 1) v) (k := 0) (r := r) ht (by omega) h12 H
  exact ⟨fu + 1, pk_le 1 0 (fun z => absurd z (by omega)) (fun _ => ⟨pk_in b 1920 (by omega) e1, pk_in (b + 1) 1920 hb (nI_add b 1), nm_r (ds_u (pk_cl _ (nI_add b 1)) (ds_g (pk_cl b e1) h13)) (nm_r (pk_m1 0) h)⟩)⟩
theorem ds_pl0 (hn : n < 3) (hd : d < 8) (hr : r < 80) (h1 : a1 r = nI d) (h12 : a12 (8 * n + d) = 0) (H : post (f, a1, a2, a3, a4, a5, a6, a7, a8, a9, a10, a11, upd a12 (8 * n + d) 1, upd a13 (640 * n + 80 * d) (nI r), a14, a15, a16, a17, a18, a19, a20, a21, a22)) :
    wpX_putLeaf post (f, a1, a2, a3, a4, a5, a6, a7, a8, a9, a10, a11, a12, a13, a14, a15, a16, a17, a18, a19, a20, a21, a22) (nI n) (nI r) :=
  ⟨pk_in r 80 hr, nm_r (ds_g (pk_cl r) h1) (nm_r (ds_i8 n d) (nm_r (ds_ib n d) ⟨1, pk_le 80 0 (fun z => absurd z (by omega)) (fun _ => br_f (by decide)
    ⟨pk_in (8 * n + d) 24 (by omega), pk_le 0 0 (fun _ => ⟨pk_in (8 * n + d) 24 (by omega), nm_r (ds_g (pk_cl (8 * n + d)) h12) (ds_p108a (k := 0) (c := 0) (by omega) (by omega) h12 H)⟩) (fun z => absurd z (by omega)) (ds_g (pk_cl (8 * n + d)) h12)⟩)⟩))⟩
theorem ds_pl1 (hn : n < 3) (hd : d < 8) (hr : r < 80) (hq : q < 80) (h1 : a1 r = nI d) (h12 : a12 (8 * n + d) = 1) (h13 : a13 (640 * n + 80 * d) = nI q) (h5q : a5 q = 1) (h5r : a5 r = 1) (hne : ¬ a3 q = a3 r)
    (H0 : a3 q ≤ a3 r → post (f, a1, a2, a3, a4, a5, a6, a7, a8, a9, a10, a11, upd a12 (8 * n + d) 2, upd (upd a13 (640 * n + 80 * d + 1) (nI q)) (640 * n + 80 * d) (nI r), a14, a15, a16, a17, a18, a19, a20, upd a21 0 (nI q), upd a22 0 (nI r)))
    (H1 : ¬ a3 q ≤ a3 r → post (f, a1, a2, a3, a4, a5, a6, a7, a8, a9, a10, a11, upd a12 (8 * n + d) 2, upd a13 (640 * n + 80 * d + 1) (nI r), a14, a15, a16, a17, a18, a19, a20, upd a21 0 (nI q), upd a22 0 (nI r))) :
    wpX_putLeaf post (f, a1, a2, a3, a4, a5, a6, a7, a8, a9, a10, a11, a12, a13, a14, a15, a16, a17, a18, a19, a20, a21, a22) (nI n) (nI r) := by
  refine ⟨pk_in r 80 hr, nm_r (ds_g (pk_cl r) h1) (nm_r (ds_i8 n d) (nm_r (ds_ib n d) ⟨2, pk_le 80 0 (fun z => absurd z (by omega)) (fun _ => br_f (by decide)
    ⟨pk_in (8 * n + d) 24 (by omega), pk_le 1 0 (fun z => absurd z (by omega)) (fun _ => ⟨pk_in (640 * n + 80 * d) 1920 (by omega) (nI_add (640 * n + 80 * d) 0), ?_⟩) (ds_g (pk_cl (8 * n + d)) h12)⟩)⟩))⟩
  have e : a13 (nI (640 * n + 80 * d) + 0).toNatClampNeg = nI q := ds_g (pk_cl (640 * n + 80 * d) (nI_add (640 * n + 80 * d) 0)) h13
  rw [e]
  refine ds_cf hq hr h5q h5r hne (fun h => ?_) (fun h => ?_)
  · exact br_t rfl (nm_r (nI_1 0) (pk_le 80 1 (fun z => absurd z (by omega)) (fun _ => br_t rfl ⟨pk_in (8 * n + d) 24 (by omega), nm_r (ds_g (pk_cl (8 * n + d)) h12)
      (ds_p108b (c := 1) (by omega) (by omega) h12 h13 (H0 h))⟩)))
  · exact br_f (by decide) (nm_r (nI_1 0) (nm_r (nI_1 0) (pk_le 80 1 (fun z => absurd z (by omega)) (fun _ => br_f (by decide) ⟨pk_in (8 * n + d) 24 (by omega), pk_le 1 1 (fun _ => ⟨pk_in (8 * n + d) 24 (by omega), nm_r (ds_g (pk_cl (8 * n + d)) h12)
      (ds_p108a (k := 1) (c := 1) (by omega) (by omega) h12 (H1 h))⟩) (fun z => absurd z (by omega)) (ds_g (pk_cl (8 * n + d)) h12)⟩))))
theorem ds_ln0 (hn : n < 3) (hd : d < 8) (hr : r < 80) (h2 : a2 r = -1) (h1 : a1 r = nI d) (h12 : a12 (8 * n + d) = 0)
    (H : post (f, a1, a2, a3, a4, a5, a6, a7, a8, upd a9 (80 * n + r) 1, upd a10 (80 * n + r) 0, upd a11 (80 * n + r) 0, upd a12 (8 * n + d) 1, upd a13 (640 * n + 80 * d) (nI r), a14, a15, a16, a17, a18, a19, a20, a21, a22)) :
    wpX_learn post (f, a1, a2, a3, a4, a5, a6, a7, a8, a9, a10, a11, a12, a13, a14, a15, a16, a17, a18, a19, a20, a21, a22) (nI n) (nI r) :=
  ⟨pk_in r 80 hr, nm_r (ds_g (pk_cl r) h2) ⟨pk_in (80 * n + r) 240 (by omega) (ds_i80 n r), nm_r (ds_u (pk_cl _ (ds_i80 n r)) rfl) ⟨pk_in (80 * n + r) 240 (by omega) (ds_i80 n r), nm_r (ds_u (pk_cl _ (ds_i80 n r)) rfl)
    ⟨pk_in (80 * n + r) 240 (by omega) (ds_i80 n r), nm_r (ds_u (pk_cl _ (ds_i80 n r)) rfl) (br_t rfl (ds_pl0 hn hd hr h1 h12 H))⟩⟩⟩⟩
theorem ds_ln1 (hn : n < 3) (hd : d < 8) (hr : r < 80) (hq : q < 80) (h2 : a2 r = -1) (h1 : a1 r = nI d) (h12 : a12 (8 * n + d) = 1) (h13 : a13 (640 * n + 80 * d) = nI q) (h5q : a5 q = 1) (h5r : a5 r = 1) (hne : ¬ a3 q = a3 r)
    (H0 : a3 q ≤ a3 r → post (f, a1, a2, a3, a4, a5, a6, a7, a8, upd a9 (80 * n + r) 1, upd a10 (80 * n + r) 0, upd a11 (80 * n + r) 0, upd a12 (8 * n + d) 2, upd (upd a13 (640 * n + 80 * d + 1) (nI q)) (640 * n + 80 * d) (nI r), a14, a15, a16, a17, a18, a19, a20, upd a21 0 (nI q), upd a22 0 (nI r)))
    (H1 : ¬ a3 q ≤ a3 r → post (f, a1, a2, a3, a4, a5, a6, a7, a8, upd a9 (80 * n + r) 1, upd a10 (80 * n + r) 0, upd a11 (80 * n + r) 0, upd a12 (8 * n + d) 2, upd a13 (640 * n + 80 * d + 1) (nI r), a14, a15, a16, a17, a18, a19, a20, upd a21 0 (nI q), upd a22 0 (nI r))) :
    wpX_learn post (f, a1, a2, a3, a4, a5, a6, a7, a8, a9, a10, a11, a12, a13, a14, a15, a16, a17, a18, a19, a20, a21, a22) (nI n) (nI r) :=
  ⟨pk_in r 80 hr, nm_r (ds_g (pk_cl r) h2) ⟨pk_in (80 * n + r) 240 (by omega) (ds_i80 n r), nm_r (ds_u (pk_cl _ (ds_i80 n r)) rfl) ⟨pk_in (80 * n + r) 240 (by omega) (ds_i80 n r), nm_r (ds_u (pk_cl _ (ds_i80 n r)) rfl)
    ⟨pk_in (80 * n + r) 240 (by omega) (ds_i80 n r), nm_r (ds_u (pk_cl _ (ds_i80 n r)) rfl) (br_t rfl (ds_pl1 hn hd hr hq h1 h12 h13 h5q h5r hne H0 H1))⟩⟩⟩⟩
end
end
section
/-! ===== stamps, views ===== -/
section
variable {post : St2 → Prop} {f : Int32} {a1 a2 a3 a4 a5 a6 a7 a8 a9 a10 a11 a12 a13 a14 a15 a16 a17 a18 a19 a20 a21 a22 : Nat → Int32} {n d c r : Nat} {x y : Int32}
theorem ds_sn (hn : n < 3) (hd : d < 8) (h14 : a14 n = nI c) (H : post (f, a1, a2, a3, a4, a5, a6, a7, a8, a9, a10, a11, a12, a13, upd a14 n (nI (c + 1)), upd a15 (8 * n + d) (nI (c + 1)), a16, a17, a18, a19, a20, a21, a22)) : wpX_stampNow post (f, a1, a2, a3, a4, a5, a6, a7, a8, a9, a10, a11, a12, a13, a14, a15, a16, a17, a18, a19, a20, a21, a22) (nI n) (nI d) :=
  ⟨pk_in n 3 hn, pk_in n 3 hn, nm_r (ds_u (pk_cl n) (ds_g1 (pk_cl n) h14)) ⟨pk_in n 3 hn, pk_in (8 * n + d) 24 (by omega) (ds_i8 n d), nm_r (ds_u (pk_cl _ (ds_i8 n d)) (ds_g (pk_cl n) pk_us)) H⟩⟩
theorem ds_pv (hn : n < 3) (hd : d < 8) (h17 : a17 n = 0) (hx : y = x) (H : post (f, a1, a2, a3, a4, a5, a6, a7, a8, a9, a10, a11, a12, a13, a14, a15, a16, upd a17 n 1, upd a18 (8 * n) (nI d), upd a19 (8 * n + d) 1, upd a20 (8 * n + d) x, a21, a22)) :
    wpX_putIntoView post (f, a1, a2, a3, a4, a5, a6, a7, a8, a9, a10, a11, a12, a13, a14, a15, a16, a17, a18, a19, a20, a21, a22) (nI n) (nI d) y :=
  ⟨pk_in (8 * n + d) 24 (by omega) (ds_i8 n d), nm_r (ds_u (pk_cl _ (ds_i8 n d)) hx) ⟨pk_in (8 * n + d) 24 (by omega) (ds_i8 n d), nm_r (ds_u (pk_cl _ (ds_i8 n d)) rfl)
    ⟨pk_in n 3 hn, nm_r (ds_g (pk_cl n) h17) ⟨1, pk_le 8 0 (fun z => absurd z (by omega)) (fun _ => pk_le 0 0 (fun _ =>
      ⟨pk_in (8 * n) 24 (by omega) (ds_i8 n 0), nm_r (ds_u (pk_cl (8 * n) (ds_i8 n 0)) rfl) ⟨pk_in n 3 hn, pk_in n 3 hn, nm_r (ds_u (pk_cl n) (ds_g1 (c := 0) (pk_cl n) h17)) H⟩⟩) (fun z => absurd z (by omega)))⟩⟩⟩⟩
theorem ds_tv (hn : n < 3) (hd : d < 8) (h17 : a17 n = 1) (h18 : a18 (8 * n) = nI d) (H : post (f, a1, a2, a3, a4, a5, a6, a7, a8, a9, a10, a11, a12, a13, a14, a15, a16, upd a17 n 0, a18, upd a19 (8 * n + d) 0, a20, a21, a22)) : wpX_takeFromView post (f, a1, a2, a3, a4, a5, a6, a7, a8, a9, a10, a11, a12, a13, a14, a15, a16, a17, a18, a19, a20, a21, a22) (nI n) (nI d) := by
  have e : a17 (nI n).toNatClampNeg - 1 = 0 := by
    rw [nI_clamp (by omega), h17]; rfl
  exact ⟨1, pk_le 8 0 (fun z => absurd z (by omega)) (fun _ => ⟨pk_in (8 * n) 24 (by omega) (ds_i8 n 0), br_t (ds_g (pk_cl (8 * n) (ds_i8 n 0)) h18)
    ⟨pk_in n 3 hn, pk_in n 3 hn, nm_r (ds_u (pk_cl n) e) ⟨1, ⟨pk_in n 3 hn, pk_le 0 0 (fun _ => ⟨pk_in (8 * n + d) 24 (by omega) (ds_i8 n d), nm_r (ds_u (pk_cl _ (ds_i8 n d)) rfl) H⟩) (fun z => absurd z (by omega)) (ds_g (pk_cl n) pk_us)⟩⟩⟩⟩)⟩
theorem ds_rn0 (hn : n < 3) (hd : d < 8) (hc : c < 79) (hr : r < 80) (h12 : a12 (8 * n + d) = nI (c + 1)) (h13 : a13 (640 * n + 80 * d) = nI r) (h4 : a4 r = 0) (h3 : a3 r = x) (h19 : a19 (8 * n + d) = 0) (h17 : a17 n = 0)
    (H : post (f, a1, a2, a3, a4, a5, a6, a7, a8, a9, a10, a11, a12, a13, a14, a15, a16, upd a17 n 1, upd a18 (8 * n) (nI d), upd a19 (8 * n + d) 1, upd a20 (8 * n + d) x, a21, a22)) : wpX_renew post (f, a1, a2, a3, a4, a5, a6, a7, a8, a9, a10, a11, a12, a13, a14, a15, a16, a17, a18, a19, a20, a21, a22) (nI n) (nI d) :=
  ds_fw1 hn hd hc h12 h13 hr h4 (br_f (ds_m1 (by omega)) ⟨pk_in r 80 hr, br_t (ds_g (pk_cl r) h4) ⟨pk_in (8 * n + d) 24 (by omega) (ds_i8 n d), nm_r (ds_g (pk_cl _ (ds_i8 n d)) h19)
    (br_t rfl (br_t rfl (br_f (by decide) ⟨pk_in r 80 hr, ds_pv hn hd h17 (ds_g (pk_cl r) h3) H⟩)))⟩⟩)
theorem ds_rn1 (hn : n < 3) (hd : d < 8) (hc : c < 79) (hr : r < 80) (h12 : a12 (8 * n + d) = nI (c + 1)) (h13 : a13 (640 * n + 80 * d) = nI r) (h4 : a4 r = 0) (h3 : a3 r = x) (h19 : a19 (8 * n + d) = 1) (h20 : a20 (8 * n + d) = x)
    (H : post (f, a1, a2, a3, a4, a5, a6, a7, a8, a9, a10, a11, a12, a13, a14, a15, a16, a17, a18, a19, a20, a21, a22)) : wpX_renew post (f, a1, a2, a3, a4, a5, a6, a7, a8, a9, a10, a11, a12, a13, a14, a15, a16, a17, a18, a19, a20, a21, a22) (nI n) (nI d) :=
  ds_fw1 hn hd hc h12 h13 hr h4 (br_f (ds_m1 (by omega)) ⟨pk_in r 80 hr, br_t (ds_g (pk_cl r) h4) ⟨pk_in (8 * n + d) 24 (by omega) (ds_i8 n d), nm_r (ds_g (pk_cl _ (ds_i8 n d)) h19)
    (br_f (by decide) (br_f (by decide) ⟨pk_in (8 * n + d) 24 (by omega) (ds_i8 n d), pk_in r 80 hr, br_t ((ds_g (pk_cl _ (ds_i8 n d)) h20).trans (ds_g (pk_cl r) h3).symm) H⟩))⟩⟩)
theorem ds_rn2 (hn : n < 3) (hd : d < 8) (hc : c < 79) (hr : r < 80) (h12 : a12 (8 * n + d) = nI (c + 1)) (h13 : a13 (640 * n + 80 * d) = nI r) (h4 : a4 r = 0) (h3 : a3 r = x) (h19 : a19 (8 * n + d) = 1) (h20 : a20 (8 * n + d) = y) (hyx : ¬ y = x)
    (h17 : a17 n = 1) (h18 : a18 (8 * n) = nI d)
    (H : post (f, a1, a2, a3, a4, a5, a6, a7, a8, a9, a10, a11, a12, a13, a14, a15, a16, upd (upd a17 n 0) n 1, upd a18 (8 * n) (nI d), upd (upd a19 (8 * n + d) 0) (8 * n + d) 1, upd a20 (8 * n + d) x, a21, a22)) : wpX_renew post (f, a1, a2, a3, a4, a5, a6, a7, a8, a9, a10, a11, a12, a13, a14, a15, a16, a17, a18, a19, a20, a21, a22) (nI n) (nI d) := by
  have ne : ¬ a20 (8 * nI n + nI d).toNatClampNeg = a3 (nI r).toNatClampNeg := by
    rw [ds_i8, nI_clamp (by omega), nI_clamp (by omega), h20, h3]; exact hyx
  exact ds_fw1 hn hd hc h12 h13 hr h4 (br_f (ds_m1 (by omega)) ⟨pk_in r 80 hr, br_t (ds_g (pk_cl r) h4) ⟨pk_in (8 * n + d) 24 (by omega) (ds_i8 n d), nm_r (ds_g (pk_cl _ (ds_i8 n d)) h19)
    (br_f (by decide) (br_f (by decide) ⟨pk_in (8 * n + d) 24 (by omega) (ds_i8 n d), pk_in r 80 hr, br_f ne (br_f (by decide) (ds_tv hn hd h17 h18 (br_f (by decide) ⟨pk_in r 80 hr, ds_pv hn hd pk_us (ds_g (pk_cl r) h3) H⟩)))⟩))⟩⟩)
end
end
section
/-! ===== edits ===== -/
section
variable {post : Int32 → St2 → Prop} {f : Int32} {a1 a2 a3 a4 a5 a6 a7 a8 a9 a10 a11 a12 a13 a14 a15 a16 a17 a18 a19 a20 a21 a22 : Nat → Int32} {n d c r : Nat} {x v : Int32}
theorem ds_c48 (hn : n < 3) (hd : d < 8) (hr : r < 80) (h9 : a9 (80 * n + r) = 0) (h2 : a2 r = -1) (h1 : a1 r = nI d) (h4 : a4 r = 0) (h3 : a3 r = x) (h12 : a12 (8 * n + d) = 0) (h14 : a14 n = 0) (h17 : a17 n = 0) (h19 : a19 (8 * n + d) = 0)
    (H : post (nI r) (f, a1, a2, a3, a4, a5, a6, a7, a8, upd a9 (80 * n + r) 1, upd a10 (80 * n + r) 0, upd (upd a11 (80 * n + r) 0) (80 * n + r) 1, upd a12 (8 * n + d) 1, upd a13 (640 * n + 80 * d) (nI r), upd a14 n 1, upd a15 (8 * n + d) 1, a16, upd a17 n 1, upd a18 (8 * n) (nI d), upd a19 (8 * n + d) 1, upd a20 (8 * n + d) x, a21, a22)) :
    wX_change_48 post (nI n) (nI d) (nI r) f a1 a2 a3 a4 a5 a6 a7 a8 a9 a10 a11 a12 a13 a14 a15 a16 a17 a18 a19 a20 a21 a22 :=
  ⟨pk_in (80 * n + r) 240 (by omega) (ds_i80 n r), br_t (ds_g (pk_cl _ (ds_i80 n r)) h9) (ds_ln0 hn hd hr h2 h1 h12
    ⟨pk_in (80 * n + r) 240 (by omega) (ds_i80 n r), nm_r (ds_u (pk_cl _ (ds_i80 n r)) rfl) (ds_sn (c := 0) hn hd h14 (ds_rn0 (c := 0) hn hd (by omega) hr pk_us pk_us h4 h3 h19 h17 H))⟩)⟩
theorem ds_edO (hn : n < 3) (hd : d < 8) (hr : r < 80) (HF : ∀ ps : Int32 → Prop, ps (nI r) → wpX_findRevision ps (f, a1, a2, a3, a4, a5, a6, a7, a8, a9, a10, a11, a12, a13, a14, a15, a16, a17, a18, a19, a20, a21, a22) (nI d) (-1) x 0)
    (h9 : a9 (80 * n + r) = 0) (h2 : a2 r = -1) (h1 : a1 r = nI d) (h4 : a4 r = 0) (h3 : a3 r = x) (h12 : a12 (8 * n + d) = 0) (h14 : a14 n = 0) (h17 : a17 n = 0) (h19 : a19 (8 * n + d) = 0)
    (H : post (nI r) (f, a1, a2, a3, a4, a5, a6, a7, a8, upd a9 (80 * n + r) 1, upd a10 (80 * n + r) 0, upd (upd a11 (80 * n + r) 0) (80 * n + r) 1, upd a12 (8 * n + d) 1, upd a13 (640 * n + 80 * d) (nI r), upd a14 n 1, upd a15 (8 * n + d) 1, a16, upd a17 n 1, upd a18 (8 * n) (nI d), upd a19 (8 * n + d) 1, upd a20 (8 * n + d) x, a21, a22)) :
    wpX_edit post (f, a1, a2, a3, a4, a5, a6, a7, a8, a9, a10, a11, a12, a13, a14, a15, a16, a17, a18, a19, a20, a21, a22) (nI n) (nI d) x := by
  unfold wpX_edit
  dsimp only
  refine ds_bs hn (br_t rfl (ds_bd hd (br_t rfl (ds_fw0 hn hd h12 ?_))))
  unfold wpX_change
  dsimp only
  refine HF _ (br_f (ds_m1 (by omega)) ?_)
  exact br_f (ds_m1 (by omega)) (ds_c48 hn hd hr h9 h2 h1 h4 h3 h12 h14 h17 h19 H)
theorem ds_edN (hn : n < 3) (hd : d < 8) (hc : c < 80) (HF : ∀ ps : Int32 → Prop, ps (-1) → wpX_findRevision ps (nI c, a1, a2, a3, a4, a5, a6, a7, a8, a9, a10, a11, a12, a13, a14, a15, a16, a17, a18, a19, a20, a21, a22) (nI d) (-1) x 0)
    (h8 : a8 d = v) (h9 : a9 (80 * n + c) = 0) (h12 : a12 (8 * n + d) = 0) (h14 : a14 n = 0) (h17 : a17 n = 0) (h19 : a19 (8 * n + d) = 0)
    (H : post (nI c) (nI (c + 1), upd a1 c (nI d), upd a2 c (-1), upd a3 c x, upd a4 c 0, upd a5 c 1, upd a6 c (-1), upd a7 c v, upd a8 d (nI c), upd a9 (80 * n + c) 1, upd a10 (80 * n + c) 0, upd (upd a11 (80 * n + c) 0) (80 * n + c) 1, upd a12 (8 * n + d) 1, upd a13 (640 * n + 80 * d) (nI c), upd a14 n 1, upd a15 (8 * n + d) 1, a16, upd a17 n 1, upd a18 (8 * n) (nI d), upd a19 (8 * n + d) 1, upd a20 (8 * n + d) x, a21, a22)) :
    wpX_edit post (nI c, a1, a2, a3, a4, a5, a6, a7, a8, a9, a10, a11, a12, a13, a14, a15, a16, a17, a18, a19, a20, a21, a22) (nI n) (nI d) x := by
  unfold wpX_edit
  dsimp only
  refine ds_bs hn (br_t rfl (ds_bd hd (br_t rfl (ds_fw0 hn hd h12 ?_))))
  unfold wpX_change
  dsimp only
  refine HF _ (br_t rfl (pk_eq c 80 (fun z => absurd z (by omega)) (fun _ => ?_)))
  exact br_t rfl (ds_mr hd hc h8 (ds_c48 hn hd hc h9 pk_us pk_us pk_us pk_us h12 h14 h17 h19 H))
end
end
section
/-! ===== copying ===== -/
theorem ds_g10 {f : Nat → Int32} {i j : Nat} (hi : i = j) (hv : f j = 1) : ¬ f i = 0 := by
  rw [hi, hv]; decide
section
variable {post : Int32 → Prop} {f : Int32} {a1 a2 a3 a4 a5 a6 a7 a8 a9 a10 a11 a12 a13 a14 a15 a16 a17 a18 a19 a20 a21 a22 : Nat → Int32} {n d l s : Nat}
theorem ds_nc (hn : n < 3) (hd : d < 8) (hl : l < s) (hs : s < 2 ^ 31) (h15 : a15 (8 * n + d) = nI s) (ho : ∀ e, e < 8 → e ≠ d → a15 (8 * n + e) = 0) (H : post (nI d)) :
    wpX_nextChanged post (f, a1, a2, a3, a4, a5, a6, a7, a8, a9, a10, a11, a12, a13, a14, a15, a16, a17, a18, a19, a20, a21, a22) (nI n) (nI l) :=
  pk_loop (fun k i t => wX_nextChanged_5 post (nI n) (nI l) f a1 a2 a3 a4 a5 a6 a7 a8 a9 a10 a11 a12 a13 a14 a15 a16 a17 a18 a19 a20 a21 a22 k t (nI i)) (fun i t => (i ≤ d → t = -1) ∧ (d < i → t = nI d)) 8 0 (-1) (by omega) ⟨fun _ => rfl, fun h => absurd h (by omega)⟩
    (fun k t h => by
      have et := h.2 hd
      subst et
      exact pk_le 8 8 (fun _ => H) (fun z => absurd z (by omega)))
    (fun k i t hi h hw => by
      by_cases e : i = d
      · have et := h.1 (by omega)
        subst et
        have h15' : a15 (8 * n + i) = nI s := by rw [e]; exact h15
        exact pk_le 8 i (fun z => absurd z (by omega)) (fun _ => ⟨pk_in (8 * n + i) 24 (by omega) (ds_i8 n i), nm_r (ds_g (pk_cl _ (ds_i8 n i)) h15')
          (pk_le s l (fun z => absurd z (by omega)) (fun _ => br_t rfl (nm_r (nI_1 i) (hw _ ⟨fun z => absurd z (by omega), fun _ => by rw [e]⟩))))⟩)
      · exact pk_le 8 i (fun z => absurd z (by omega)) (fun _ => ⟨pk_in (8 * n + i) 24 (by omega) (ds_i8 n i), nm_r (ds_g (pk_cl _ (ds_i8 n i)) (ho i hi e))
          (pk_le 0 l (fun _ => nm_r (nI_1 i) (hw t ⟨fun z => h.1 (by omega), fun z => h.2 (by omega)⟩)) (fun z => absurd z (by omega)))⟩))
theorem ds_nc0 (hn : n < 3) (hl : l < 2 ^ 31) (ho : ∀ e, e < 8 → ∃ t, t ≤ l ∧ a15 (8 * n + e) = nI t) (H : post (-1)) :
    wpX_nextChanged post (f, a1, a2, a3, a4, a5, a6, a7, a8, a9, a10, a11, a12, a13, a14, a15, a16, a17, a18, a19, a20, a21, a22) (nI n) (nI l) :=
  pk_loop (fun k i t => wX_nextChanged_5 post (nI n) (nI l) f a1 a2 a3 a4 a5 a6 a7 a8 a9 a10 a11 a12 a13 a14 a15 a16 a17 a18 a19 a20 a21 a22 k t (nI i)) (fun _ t => t = -1) 8 0 (-1) (by omega) rfl
    (fun k t h => by
      subst h
      exact pk_le 8 8 (fun _ => H) (fun z => absurd z (by omega)))
    (fun k i t hi h hw => by
      obtain ⟨t', ht, e⟩ := ho i hi
      exact pk_le 8 i (fun z => absurd z (by omega)) (fun _ => ⟨pk_in (8 * n + i) 24 (by omega) (ds_i8 n i), nm_r (ds_g (pk_cl _ (ds_i8 n i)) e)
          (pk_le t' l (fun _ => nm_r (nI_1 i) (hw t h)) (fun z => absurd z (by omega)))⟩))
end
section
variable {post : St2 → Prop} {f : Int32} {a1 a2 a3 a4 a5 a6 a7 a8 a9 a10 a11 a12 a13 a14 a15 a16 a17 a18 a19 a20 a21 a22 : Nat → Int32} {n m d r : Nat}
theorem ds_cb (hn : n < 3) (hm : m < 3) (hd : d < 8) (hr : r < 80) (h12 : a12 (8 * n + d) = 1) (h13 : a13 (640 * n + 80 * d) = nI r) (h11n : a11 (80 * n + r) = 1) (h11m : a11 (80 * m + r) = 0)
    (H : post (f, a1, a2, a3, a4, a5, a6, a7, a8, a9, a10, upd a11 (80 * m + r) 1, a12, a13, a14, a15, a16, a17, a18, a19, a20, a21, a22)) : wpX_copyBodies post (f, a1, a2, a3, a4, a5, a6, a7, a8, a9, a10, a11, a12, a13, a14, a15, a16, a17, a18, a19, a20, a21, a22) (nI n) (nI m) (nI d) :=
  ⟨pk_in (8 * n + d) 24 (by omega) (ds_i8 n d), nm_r (ds_g (pk_cl _ (ds_i8 n d)) h12) ⟨2, pk_le 1 0 (fun z => absurd z (by omega)) (fun _ => ds_la (k := 0) hn hd (by omega) h13
    ⟨pk_in (80 * n + r) 240 (by omega) (ds_i80 n r), nm_r (ds_g (pk_cl _ (ds_i80 n r)) h11n) ⟨pk_in (80 * m + r) 240 (by omega) (ds_i80 m r), br_t (ds_g (pk_cl _ (ds_i80 m r)) h11m)
      (br_f (by decide) ⟨pk_in (80 * m + r) 240 (by omega) (ds_i80 m r), nm_r (ds_u (pk_cl _ (ds_i80 m r)) rfl) (nm_r (nI_1 0) (pk_le 1 1 (fun _ => H) (fun z => absurd z (by omega))))⟩)⟩⟩)⟩⟩
end
section
variable {post : Int32 → St2 → Prop} {f : Int32} {a1 a2 a3 a4 a5 a6 a7 a8 a9 a10 a11 a12 a13 a14 a15 a16 a17 a18 a19 a20 a21 a22 : Nat → Int32} {n m d : Nat} {x y z v : Int32}
theorem ds_cdS (hn : n < 3) (hm : m < 3) (h1 : a1 0 = nI d) (h9n : a9 (80 * n) = 1) (h9m : a9 (80 * m) = 1) (H : post 0 (nI 1, a1, a2, a3, a4, a5, a6, a7, a8, a9, a10, a11, a12, a13, a14, a15, a16, a17, a18, a19, a20, a21, a22)) : wpX_copyDocument post (nI 1, a1, a2, a3, a4, a5, a6, a7, a8, a9, a10, a11, a12, a13, a14, a15, a16, a17, a18, a19, a20, a21, a22) (nI n) (nI m) (nI d) :=
  ⟨2, pk_le 1 0 (fun z => absurd z (by omega)) (fun _ => ⟨pk_in 0 80 (by omega), br_t (ds_g (pk_cl 0) h1) ⟨pk_in (80 * n) 240 (by omega) (ds_i80 n 0), br_f (ds_g10 (pk_cl (80 * n) (ds_i80 n 0)) h9n)
    ⟨pk_in (80 * m) 240 (by omega) (ds_i80 m 0), br_f (ds_g10 (pk_cl (80 * m) (ds_i80 m 0)) h9m) (nm_r (nI_1 0) (pk_le 1 1 (fun _ => br_t rfl ⟨rfl, H⟩) (fun z => absurd z (by omega))))⟩⟩⟩)⟩
theorem ds_cdD (hn : n < 3) (hm : m < 3) (hnm : n ≠ m) (hd : d < 8) (h1 : a1 0 = nI d) (h11 : a1 1 = nI d) (h2 : a2 0 = -1) (h30 : a3 0 = x) (h31 : a3 1 = y) (hyx : ¬ y = x) (h40 : a4 0 = 0) (h41 : a4 1 = 0) (h50 : a5 0 = 1) (h51 : a5 1 = 1)
    (h9n : a9 (80 * n) = 1) (h9n1 : a9 (80 * n + 1) = 0) (h9m : a9 (80 * m) = 0) (h11n : a11 (80 * n) = 1) (h12n : a12 (8 * n + d) = 1) (h12m : a12 (8 * m + d) = 1) (h13n : a13 (640 * n + 80 * d) = nI 0) (h13m : a13 (640 * m + 80 * d) = nI 1)
    (h14m : a14 m = 1) (h17m : a17 m = 1) (h18m : a18 (8 * m) = nI d) (h19m : a19 (8 * m + d) = 1) (h20m : a20 (8 * m + d) = y)
    (H0 : y ≤ x → post 1 (nI 2, a1, a2, a3, a4, a5, a6, a7, a8, upd a9 (80 * m) 1, upd a10 (80 * m) 0, upd (upd a11 (80 * m) 0) (80 * m) 1, upd a12 (8 * m + d) 2, upd (upd a13 (640 * m + 80 * d + 1) (nI 1)) (640 * m + 80 * d) (nI 0), upd a14 m 2, upd a15 (8 * m + d) 2, a16, upd (upd a17 m 0) m 1, upd a18 (8 * m) (nI d), upd (upd a19 (8 * m + d) 0) (8 * m + d) 1, upd a20 (8 * m + d) x, upd a21 0 (nI 1), upd a22 0 (nI 0)))
    (H1 : ¬ y ≤ x → post 1 (nI 2, a1, a2, a3, a4, a5, a6, a7, a8, upd a9 (80 * m) 1, upd a10 (80 * m) 0, upd (upd a11 (80 * m) 0) (80 * m) 1, upd a12 (8 * m + d) 2, upd a13 (640 * m + 80 * d + 1) (nI 0), upd a14 m 2, upd a15 (8 * m + d) 2, a16, a17, a18, a19, a20, upd a21 0 (nI 1), upd a22 0 (nI 0))) :
    wpX_copyDocument post (nI 2, a1, a2, a3, a4, a5, a6, a7, a8, a9, a10, a11, a12, a13, a14, a15, a16, a17, a18, a19, a20, a21, a22) (nI n) (nI m) (nI d) := by
  have hne : ¬ a3 1 = a3 0 := by rw [h30, h31]; exact hyx
  have g9 : upd a9 (80 * m + 0) 1 (80 * n + 1) = 0 := (pk_un (by omega)).trans h9n1
  have g12 : upd a12 (8 * m + d) 2 (8 * n + d) = 1 := (pk_un (by omega)).trans h12n
  have g11 : upd a11 (80 * m + 0) 0 (80 * n + 0) = 1 := (pk_un (by omega)).trans h11n
  refine ⟨3, pk_le 2 0 (fun z => absurd z (by omega)) (fun _ => ⟨pk_in 0 80 (by omega), br_t (ds_g (pk_cl 0) h1) ⟨pk_in (80 * n) 240 (by omega) (ds_i80 n 0), br_f (ds_g10 (pk_cl (80 * n) (ds_i80 n 0)) h9n)
    ⟨pk_in (80 * m) 240 (by omega) (ds_i80 m 0), br_t (ds_g (pk_cl (80 * m) (ds_i80 m 0)) h9m) (ds_ln1 (r := 0) (q := 1) hm hd (by omega) (by omega) h2 h1 h12m h13m h51 h50 hne (fun h => nm_r (nI_1 0) ?_) (fun h => nm_r (nI_1 0) ?_))⟩⟩⟩)⟩
  · rw [h30, h31] at h
    have g13 : upd (upd a13 (640 * m + 80 * d + 1) (nI 1)) (640 * m + 80 * d) (nI 0) (640 * n + 80 * d) = nI 0 := (pk_un (by omega)).trans ((pk_un (by omega)).trans h13n)
    exact pk_le 2 1 (fun z => absurd z (by omega)) (fun _ => ⟨pk_in 1 80 (by omega), br_t (ds_g (pk_cl 1) h11) ⟨pk_in (80 * n + 1) 240 (by omega) (ds_i80 n 1), br_t (ds_g (pk_cl (80 * n + 1) (ds_i80 n 1)) g9)
      (nm_r (nI_1 1) (pk_le 2 2 (fun _ => br_f (by decide) (ds_cb (r := 0) hn hm hd (by omega) g12 g13 g11 pk_us (ds_sn (c := 1) hm hd h14m
        (ds_rn2 (c := 1) (r := 0) hm hd (by omega) (by omega) pk_us pk_us h40 h30 h19m h20m hyx h17m h18m ⟨rfl, H0 h⟩)))) (fun z => absurd z (by omega))))⟩⟩)
  · rw [h30, h31] at h
    have g13 : upd a13 (640 * m + 80 * d + 1) (nI 0) (640 * n + 80 * d) = nI 0 := (pk_un (by omega)).trans h13n
    have g13m : upd a13 (640 * m + 80 * d + 1) (nI 0) (640 * m + 80 * d) = nI 1 := (pk_un (by omega)).trans h13m
    exact pk_le 2 1 (fun z => absurd z (by omega)) (fun _ => ⟨pk_in 1 80 (by omega), br_t (ds_g (pk_cl 1) h11) ⟨pk_in (80 * n + 1) 240 (by omega) (ds_i80 n 1), br_t (ds_g (pk_cl (80 * n + 1) (ds_i80 n 1)) g9)
      (nm_r (nI_1 1) (pk_le 2 2 (fun _ => br_f (by decide) (ds_cb (r := 0) hn hm hd (by omega) g12 g13 g11 pk_us (ds_sn (c := 1) hm hd h14m
        (ds_rn1 (c := 1) (r := 1) hm hd (by omega) (by omega) pk_us g13m h41 h31 h19m h20m ⟨rfl, H1 h⟩)))) (fun z => absurd z (by omega))))⟩⟩)
theorem ds_85 (hn : n < 3) (hm : m < 3) (hd : d < 8) (h15 : a15 (8 * n + d) = 1) (ho : ∀ e, e < 8 → e ≠ d → a15 (8 * n + e) = 0) (h14 : a14 n = v) (H : post z (f, a1, a2, a3, a4, a5, a6, a7, a8, a9, a10, a11, a12, a13, a14, a15, upd a16 (3 * n + m) v, a17, a18, a19, a20, a21, a22)) :
    wX_copy_85 post (wX_copy_50 post (nI n) (nI m) 1) (nI n) (nI m) (nI d) 0 z f a1 a2 a3 a4 a5 a6 a7 a8 a9 a10 a11 a12 a13 a14 a15 a16 a17 a18 a19 a20 a21 a22 := by
  have hh : ∀ e, e < 8 → ∃ t, t ≤ 1 ∧ a15 (8 * n + e) = nI t := by
    intro e he
    by_cases g : e = d
    · exact ⟨1, by omega, by rw [g]; exact h15⟩
    · exact ⟨0, by omega, ho e he g⟩
  exact ⟨pk_in (8 * n + d) 24 (by omega) (ds_i8 n d), nm_r (ds_g (pk_cl _ (ds_i8 n d)) h15) (ds_nc0 (l := 1) hn (by omega) hh (nm_r (nI_1 0)
    (pk_le 8 1 (fun z => absurd z (by omega)) (fun _ => br_t rfl ⟨pk_in n 3 hn, pk_in (3 * n + m) 9 (by omega) (ds_i3 n m), nm_r (ds_u (pk_cl _ (ds_i3 n m)) (ds_g (pk_cl n) h14)) H⟩))))⟩
theorem ds_cp (hn : n < 3) (hm : m < 3) (hnm : n ≠ m) (hd : d < 8) (h15 : a15 (8 * n + d) = 1) (ho : ∀ e, e < 8 → e ≠ d → a15 (8 * n + e) = 0) (h16 : a16 (3 * n + m) = 0)
    (H : wpX_copyDocument (fun r u => match u with | (f, a1, a2, a3, a4, a5, a6, a7, a8, a9, a10, a11, a12, a13, a14, a15, a16, a17, a18, a19, a20, a21, a22) => (((r = 0 → (wX_copy_85 post (wX_copy_50 post (nI n) (nI m) 1) (nI n) (nI m) (nI d) 0 0 f a1 a2 a3 a4 a5 a6 a7 a8 a9 a10 a11 a12 a13 a14 a15 a16 a17 a18 a19 a20 a21 a22)) ∧ (¬ r = 0 → (wX_copy_85 post (wX_copy_50 post (nI n) (nI m) 1) (nI n) (nI m) (nI d) 0 (0 + 1) f a1 a2 a3 a4 a5 a6 a7 a8 a9 a10 a11 a12 a13 a14 a15 a16 a17 a18 a19 a20 a21 a22))))) (f, a1, a2, a3, a4, a5, a6, a7, a8, a9, a10, a11, a12, a13, a14, a15, a16, a17, a18, a19, a20, a21, a22) (nI n) (nI m) (nI d)) :
    wpX_copy post (f, a1, a2, a3, a4, a5, a6, a7, a8, a9, a10, a11, a12, a13, a14, a15, a16, a17, a18, a19, a20, a21, a22) (nI n) (nI m) := by
  unfold wpX_copy
  dsimp only
  exact ds_bs hn (br_t rfl (ds_bs hm (br_t rfl (pk_eq n m (fun z => absurd z hnm) (fun _ => ⟨pk_in (3 * n + m) 9 (by omega) (ds_i3 n m), nm_r (ds_g (pk_cl _ (ds_i3 n m)) h16) (ds_nc (l := 0) (s := 1) hn hd (by omega) (by omega) h15 ho
    ⟨2, pk_le 8 0 (fun z => absurd z (by omega)) (fun _ => br_f (ds_m1 (by omega)) H)⟩)⟩)))))
end
end
section
/-! ===== the questions that the law asks ===== -/
section
variable {post : Int32 → Prop} {f : Int32} {a1 a2 a3 a4 a5 a6 a7 a8 a9 a10 a11 a12 a13 a14 a15 a16 a17 a18 a19 a20 a21 a22 : Nat → Int32} {n m d c r w : Nat} {v : Int32}
theorem ds_wn (hn : n < 3) (hd : d < 8) (hc : c < 79) (h12 : a12 (8 * n + d) = nI (c + 1)) (h13 : a13 (640 * n + 80 * d) = nI r) (hr : r < 80) (h4 : a4 r = 0) (H : post (nI r)) : wpX_winner post (f, a1, a2, a3, a4, a5, a6, a7, a8, a9, a10, a11, a12, a13, a14, a15, a16, a17, a18, a19, a20, a21, a22) (nI n) (nI d) := by
  unfold wpX_winner
  dsimp only
  exact ds_bs hn (br_t rfl (ds_bd hd (br_t rfl (ds_fw1 hn hd hc h12 h13 hr h4 (br_f (ds_m1 (by omega)) H)))))
theorem ds_lv (hn : n < 3) (hd : d < 8) (h12 : a12 (8 * n + d) = v) (H : post v) : wpX_leaves post (f, a1, a2, a3, a4, a5, a6, a7, a8, a9, a10, a11, a12, a13, a14, a15, a16, a17, a18, a19, a20, a21, a22) (nI n) (nI d) := by
  unfold wpX_leaves
  dsimp only
  exact ds_bs hn (br_t rfl (ds_bd hd (br_t rfl ⟨pk_in (8 * n + d) 24 (by omega) (ds_i8 n d), sb_at (P := post) (ds_g (pk_cl _ (ds_i8 n d)) h12) H⟩)))
theorem ds_st (hn : n < 3) (hd : d < 8) (h15 : a15 (8 * n + d) = v) (H : post v) : wpX_stamp post (f, a1, a2, a3, a4, a5, a6, a7, a8, a9, a10, a11, a12, a13, a14, a15, a16, a17, a18, a19, a20, a21, a22) (nI n) (nI d) := by
  unfold wpX_stamp
  dsimp only
  exact ds_bs hn (br_t rfl (ds_bd hd (br_t rfl ⟨pk_in (8 * n + d) 24 (by omega) (ds_i8 n d), sb_at (P := post) (ds_g (pk_cl _ (ds_i8 n d)) h15) H⟩)))
theorem ds_ol (hn : n < 3) (hd : d < 8) (hc : c < 80) (h12 : a12 (8 * n + d) = nI c) (hl : ∀ k, k < c → ∃ r, r < 80 ∧ a13 (640 * n + 80 * d + k) = nI r ∧ a4 r = 0) (H : post (nI c)) : wpX_openLeaves post (f, a1, a2, a3, a4, a5, a6, a7, a8, a9, a10, a11, a12, a13, a14, a15, a16, a17, a18, a19, a20, a21, a22) (nI n) (nI d) :=
  pk_loop (fun k i t => wX_openLeaves_5 post (nI n) (nI d) f a1 a2 a3 a4 a5 a6 a7 a8 a9 a10 a11 a12 a13 a14 a15 a16 a17 a18 a19 a20 a21 a22 k t (nI i)) (fun i t => t = nI i) c 0 0 (by omega) rfl
    (fun k t h => by
      subst h
      exact ⟨pk_in (8 * n + d) 24 (by omega) (ds_i8 n d), pk_le c c (fun _ => H) (fun z => absurd z (by omega)) (ds_g (pk_cl _ (ds_i8 n d)) h12)⟩)
    (fun k i t hi h hw => by
      subst h
      obtain ⟨r, hr, e13, e4⟩ := hl i hi
      exact ⟨pk_in (8 * n + d) 24 (by omega) (ds_i8 n d), pk_le c i (fun z => absurd z (by omega)) (fun _ => ds_la hn hd (by omega) e13 ⟨pk_in r 80 hr, br_t (ds_g (pk_cl r) e4) (nm_r (nI_1 i) (nm_r (nI_1 i) (hw _ rfl)))⟩) (ds_g (pk_cl _ (ds_i8 n d)) h12)⟩)
theorem ds_cn (hn : n < 3) (hd : d < 8) (hc : c < 80) (h12 : a12 (8 * n + d) = nI c) (hl : ∀ k, k < c → ∃ r, r < 80 ∧ a13 (640 * n + 80 * d + k) = nI r ∧ a4 r = 0) (ho : ∀ e, e < 8 → e ≠ d → a12 (8 * n + e) = 0)
    (hw : c ≤ 1 ∧ w = 0 ∨ 1 < c ∧ w = 1) (H : post (nI w)) : wpX_conflicts post (f, a1, a2, a3, a4, a5, a6, a7, a8, a9, a10, a11, a12, a13, a14, a15, a16, a17, a18, a19, a20, a21, a22) (nI n) := by
  unfold wpX_conflicts
  dsimp only
  refine ds_bs hn (br_t rfl (pk_loop (fun k i t => wX_conflicts_15 post (nI n) f a1 a2 a3 a4 a5 a6 a7 a8 a9 a10 a11 a12 a13 a14 a15 a16 a17 a18 a19 a20 a21 a22 k t (nI i)) (fun i t => (i ≤ d → t = nI 0) ∧ (d < i → t = nI w)) 8 0 0 (by omega) ⟨fun _ => rfl, fun h => absurd h (by omega)⟩ ?_ ?_))
  · intro k t h
    have et := h.2 hd
    subst et
    exact pk_le 8 8 (fun _ => H) (fun z => absurd z (by omega))
  · intro k i t hi h hk
    by_cases e : i = d
    · subst e
      have et := h.1 (by omega)
      subst et
      refine pk_le 8 i (fun z => absurd z (by omega)) (fun _ => ds_ol hn hi hc h12 hl (pk_le c 1 (fun z => nm_r (nI_1 i) (hk _ ⟨fun g => absurd g (by omega), fun _ => ?_⟩)) (fun z => nm_r (nI_1 0) (nm_r (nI_1 i) (hk _ ⟨fun g => absurd g (by omega), fun _ => ?_⟩)))))
      · rw [show w = 0 by omega]
      · rw [show w = 1 by omega]
    · exact pk_le 8 i (fun z => absurd z (by omega)) (fun _ => ds_ol (c := 0) hn hi (by omega) (ho i hi e) (fun k hk => absurd hk (by omega)) (pk_le 0 1 (fun _ => nm_r (nI_1 i) (hk t ⟨fun g => h.1 (by omega), fun g => h.2 (by omega)⟩)) (fun z => absurd z (by omega))))
theorem ds_tt (hn : n < 3) (hd : d < 8) (h17 : a17 n = 1) (h18 : a18 (8 * n) = nI d) (h20 : a20 (8 * n + d) = v) (H : post v) : wpX_total post (f, a1, a2, a3, a4, a5, a6, a7, a8, a9, a10, a11, a12, a13, a14, a15, a16, a17, a18, a19, a20, a21, a22) (nI n) := by
  have e18 : a18 (8 * nI n + 0).toNatClampNeg = nI d := ds_g (pk_cl (8 * n) (ds_i8 n 0)) h18
  have e20 : 0 + a20 (8 * nI n + nI d).toNatClampNeg = v := by
    rw [ds_i8, nI_clamp (by omega), h20]; exact Int32.zero_add v
  unfold wpX_total
  dsimp only
  refine ds_bs hn (br_t rfl ⟨2, ⟨pk_in n 3 hn, pk_le 1 0 (fun z => absurd z (by omega)) (fun _ => ⟨pk_in (8 * n) 24 (by omega) (ds_i8 n 0), ?_⟩) (ds_g (pk_cl n) h17)⟩⟩)
  rw [e18]
  exact ⟨pk_in (8 * n + d) 24 (by omega) (ds_i8 n d), nm_r e20 (nm_r (nI_1 0) ⟨pk_in n 3 hn, pk_le 1 1 (fun _ => H) (fun z => absurd z (by omega)) (ds_g (pk_cl n) h17)⟩)⟩
theorem ds_agS (hn : n < 3) (hm : m < 3) (h9n : a9 (80 * n) = 1) (h9m : a9 (80 * m) = 1) (H : post 1) : wpX_agree post (nI 1, a1, a2, a3, a4, a5, a6, a7, a8, a9, a10, a11, a12, a13, a14, a15, a16, a17, a18, a19, a20, a21, a22) (nI n) (nI m) := by
  unfold wpX_agree
  dsimp only
  exact ds_bs hn (br_t rfl (ds_bs hm (br_t rfl ⟨2, pk_le 1 0 (fun z => absurd z (by omega)) (fun _ => br_f (by decide) ⟨pk_in (80 * n) 240 (by omega) (ds_i80 n 0), pk_in (80 * m) 240 (by omega) (ds_i80 m 0),
    br_t ((ds_g (pk_cl (80 * n) (ds_i80 n 0)) h9n).trans (ds_g (pk_cl (80 * m) (ds_i80 m 0)) h9m).symm) (nm_r (nI_1 0) (pk_le 1 1 (fun _ => ⟨rfl, H⟩) (fun z => absurd z (by omega))))⟩)⟩)))
theorem ds_agD (hn : n < 3) (hm : m < 3) (h9n : a9 (80 * n) = 1) (h9m : a9 (80 * m) = 1) (h9n1 : a9 (80 * n + 1) = 0) (h9m1 : a9 (80 * m + 1) = 1) (H : post 0) : wpX_agree post (nI 2, a1, a2, a3, a4, a5, a6, a7, a8, a9, a10, a11, a12, a13, a14, a15, a16, a17, a18, a19, a20, a21, a22) (nI n) (nI m) := by
  have ne : ¬ a9 (80 * nI n + nI 1).toNatClampNeg = a9 (80 * nI m + nI 1).toNatClampNeg := by
    rw [ds_i80, ds_i80, nI_clamp (by omega), nI_clamp (by omega), h9n1, h9m1]; decide
  unfold wpX_agree
  dsimp only
  exact ds_bs hn (br_t rfl (ds_bs hm (br_t rfl ⟨3, pk_le 2 0 (fun z => absurd z (by omega)) (fun _ => br_f (by decide) ⟨pk_in (80 * n) 240 (by omega) (ds_i80 n 0), pk_in (80 * m) 240 (by omega) (ds_i80 m 0),
    br_t ((ds_g (pk_cl (80 * n) (ds_i80 n 0)) h9n).trans (ds_g (pk_cl (80 * m) (ds_i80 m 0)) h9m).symm) (nm_r (nI_1 0) (pk_le 2 1 (fun z => absurd z (by omega)) (fun _ => br_f (by decide)
      ⟨pk_in (80 * n + 1) 240 (by omega) (ds_i80 n 1), pk_in (80 * m + 1) 240 (by omega) (ds_i80 m 1), br_f ne (nm_r (nI_1 1) (pk_le 2 2 (fun _ => ⟨rfl, H⟩) (fun z => absurd z (by omega))))⟩)))⟩)⟩)))
end
end
section
/-! ===== the constructor ===== -/
theorem ds_in {post : St2 → Prop} {mc ms : Nat} {f0 : Int32} (hc : 22 ≤ mc) (hs : 3503 ≤ ms) (H : ∀ t : Nat → Int32, (∀ e, e < 8 → t e = -1) → post (f0, (fun _ => 0), (fun _ => 0), (fun _ => 0), (fun _ => 0), (fun _ => 0), (fun _ => 0), (fun _ => 0), t, (fun _ => 0), (fun _ => 0), (fun _ => 0), (fun _ => 0), (fun _ => 0), (fun _ => 0), (fun _ => 0), (fun _ => 0), (fun _ => 0), (fun _ => 0), (fun _ => 0), (fun _ => 0), (fun _ => 0), (fun _ => 0))) : wpX_init post mc ms f0 := by
  refine ⟨by omega, by omega, by omega, by omega, by omega, by omega, by omega, by omega, by omega, by omega, by omega, by omega, by omega, by omega, by omega, by omega, by omega, by omega, by omega, by omega, by omega, by omega, by omega, by omega, by omega, by omega, by omega, by omega, by omega, by omega, by omega, by omega, by omega, by omega, by omega, by omega, by omega, by omega, by omega, by omega, by omega, by omega, by omega, by omega, ?_⟩
  exact pk_loop (fun k i t => wX_init_184 post mc ms 22 3503 f0 k (nI i) (fun _ => 0) (fun _ => 0) (fun _ => 0) (fun _ => 0) (fun _ => 0) (fun _ => 0) (fun _ => 0) t (fun _ => 0) (fun _ => 0) (fun _ => 0) (fun _ => 0) (fun _ => 0) (fun _ => 0) (fun _ => 0) (fun _ => 0) (fun _ => 0) (fun _ => 0) (fun _ => 0) (fun _ => 0) (fun _ => 0) (fun _ => 0)) (fun i t => ∀ e, e < i → t e = -1) 8 0 (fun _ => 0) (by omega) (fun e he => absurd he (by omega))
    (fun k t h => pk_le 8 8 (fun _ => H t h) (fun z => absurd z (by omega)))
    (fun k i t hi h hw => pk_le 8 i (fun z => absurd z (by omega)) (fun _ => ⟨pk_in i 8 hi, nm_r (ds_u (pk_cl i) rfl) (nm_r (nI_1 i) (hw _ (fun e he => by
      by_cases g : e = i
      · rw [g]; exact pk_us
      · rw [pk_un g]; exact h e (by omega))))⟩))
/-! ===== the script's third int ===== -/
theorem ds_zz (z : Int32) : ∃ n m d : Nat, n < 3 ∧ m < 3 ∧ n ≠ m ∧ d < 8 ∧ (z &&& 3) - (z &&& 3) / 3 * 3 = nI n
    ∧ ((nI n + 1) + ((z >>> ((2 : Int32) &&& 31)) &&& 1)) - ((nI n + 1) + ((z >>> ((2 : Int32) &&& 31)) &&& 1)) / 3 * 3 = nI m ∧ (z >>> ((3 : Int32) &&& 31)) &&& 7 = nI d := by
  obtain ⟨j, hj, ej⟩ := pk_andE z (m := 3) 2 (by decide)
  obtain ⟨b, hb, eb⟩ := pk_andE (z >>> ((2 : Int32) &&& 31)) (m := 1) 1 (by decide)
  obtain ⟨d, hd, ed⟩ := pk_andE (z >>> ((3 : Int32) &&& 31)) (m := 7) 3 (by decide)
  have hj' : j < 4 := hj
  have hb' : b < 2 := hb
  have hd' : d < 8 := hd
  refine ⟨j % 3, (j % 3 + 1 + b) % 3, d, by omega, by omega, by omega, hd', ?_, ?_, ed⟩
  · rw [ej]
    exact pk_rem (d := 3) (by omega) (by omega) (by omega)
  · rw [eb, nI_1, nI_add]
    exact pk_rem (d := 3) (by omega) (by omega) (by omega)
end
section
/-! ===== the law ===== -/
theorem ds_le {x y : Int32} (h : ¬ x = y) (h2 : y ≤ x) : ¬ x ≤ y := by
  intro h3
  rw [Int32.le_iff_toInt_le] at h2 h3
  exact h (Int32.toInt_inj.mp (by omega))
theorem ds_le' {x y : Int32} (h2 : ¬ y ≤ x) : x ≤ y := by
  rw [Int32.le_iff_toInt_le] at *
  omega
theorem ds_law {post : Int32 → St0 → Prop} (mc ms : Nat) (hc : 23 ≤ mc) (hs : 3526 ≤ ms) (x y z : Int32) (H : post 1 ()) : wpL_lawOf post mc ms () x y z := by
  obtain ⟨n, m, d, hn, hm, hnm, hd, en, em, ed⟩ := ds_zz z
  refine ⟨by omega, by omega, 22, 3503, by omega, by omega, ds_in (by omega) (by omega) (fun t ht => ⟨by decide, nm_r en ⟨by decide, nm_r em (nm_r ed ?_)⟩⟩)⟩
  refine ds_edN (c := 0) hn hd (by omega) (fun ps hp => ds_fr0 hd (ht d hd) hp) (ht d hd) rfl rfl rfl rfl rfl ?_
  by_cases hxy : x = y
  · subst hxy
    refine ds_edO (r := 0) hm hd (by omega) (fun ps hp => ds_fr1 hd pk_us (by omega) pk_us pk_us hp) (pk_un (by omega)) pk_us pk_us pk_us pk_us (pk_un (by omega)) (pk_un (by omega)) (pk_un (by omega)) (pk_un (by omega)) ?_
    refine ds_cp hn hm hnm hd ((pk_un (by omega)).trans pk_us) (fun e he g => (pk_un (by omega)).trans (pk_un (by omega))) rfl ?_
    refine ds_cdS hn hm pk_us ((pk_un (by omega)).trans pk_us) pk_us (br_t rfl ?_)
    refine ds_85 hn hm hd ((pk_un (by omega)).trans pk_us) (fun e he g => (pk_un (by omega)).trans (pk_un (by omega))) ((pk_un (by omega)).trans pk_us) ?_
    refine ds_wn (c := 0) (r := 0) hm hd (by omega) pk_us pk_us (by omega) pk_us ?_
    refine ds_lv hm hd pk_us ?_
    refine ds_cn (c := 1) (w := 0) hm hd (by omega) pk_us (fun k hk => ⟨0, by omega, by rw [show k = 0 by omega]; exact pk_us, pk_us⟩) (fun e he g => (pk_un (by omega)).trans (pk_un (by omega))) (Or.inl ⟨by omega, rfl⟩) ?_
    refine ds_st hm hd pk_us ?_
    refine ds_tt hm hd pk_us pk_us pk_us ?_
    refine ds_agS hn hm ((pk_un (by omega)).trans pk_us) pk_us ?_
    have hx : x ≤ x := Int32.le_refl x
    exact br_t rfl (br_f (by decide) (br_t rfl (br_f (by decide) (br_t rfl (br_f (by decide) (br_t rfl (br_f (by decide) (br_t rfl (br_f (by decide) (br_t rfl (br_f (by decide) (br_t rfl (br_t hx (br_t rfl (br_t rfl H)))))))))))))))
  · refine ds_edN (c := 1) hm hd (by omega) (fun ps hp => ds_fr2 (r := 0) hd pk_us (by omega) (by rw [pk_us]; exact hxy) pk_us hp) pk_us (pk_un (by omega)) (pk_un (by omega)) (pk_un (by omega)) (pk_un (by omega)) (pk_un (by omega)) ?_
    refine ds_cp hn hm hnm hd ((pk_un (by omega)).trans pk_us) (fun e he g => (pk_un (by omega)).trans (pk_un (by omega))) rfl ?_
    refine ds_cdD (x := x) (y := y) hn hm hnm hd ((pk_un (by omega)).trans pk_us) pk_us ((pk_un (by omega)).trans pk_us) ((pk_un (by omega)).trans pk_us) pk_us (fun g => hxy g.symm) ((pk_un (by omega)).trans pk_us) pk_us ((pk_un (by omega)).trans pk_us) pk_us
      ((pk_un (by omega)).trans pk_us) ((pk_un (by omega)).trans (pk_un (by omega))) ((pk_un (by omega)).trans (pk_un (by omega))) ((pk_un (by omega)).trans ((pk_un (by omega)).trans pk_us)) ((pk_un (by omega)).trans pk_us) pk_us ((pk_un (by omega)).trans pk_us) pk_us
      pk_us pk_us pk_us pk_us pk_us (fun hle => br_f (by decide) ?_) (fun hle => br_f (by decide) ?_)
    · refine ds_85 hn hm hd ((pk_un (by omega)).trans ((pk_un (by omega)).trans pk_us)) (fun e he g => (pk_un (by omega)).trans ((pk_un (by omega)).trans (pk_un (by omega)))) ((pk_un (by omega)).trans ((pk_un (by omega)).trans pk_us)) ?_
      refine ds_wn (c := 1) (r := 0) hm hd (by omega) pk_us pk_us (by omega) ((pk_un (by omega)).trans pk_us) ?_
      refine ds_lv hm hd pk_us ?_
      refine ds_cn (c := 2) (w := 1) hm hd (by omega) pk_us (fun k hk => ?_) (fun e he g => (pk_un (by omega)).trans ((pk_un (by omega)).trans (pk_un (by omega)))) (Or.inr ⟨by omega, rfl⟩) ?_
      · by_cases g : k = 0
        · rw [g]; exact ⟨0, by omega, pk_us, (pk_un (by omega)).trans pk_us⟩
        · rw [show k = 1 by omega]; exact ⟨1, by omega, (pk_un (by omega)).trans pk_us, pk_us⟩
      refine ds_st hm hd pk_us ?_
      refine ds_tt hm hd pk_us pk_us pk_us ?_
      refine ds_agD hn hm ((pk_un (by omega)).trans ((pk_un (by omega)).trans pk_us)) pk_us ((pk_un (by omega)).trans ((pk_un (by omega)).trans (pk_un (by omega)))) ((pk_un (by omega)).trans pk_us) ?_
      have hx : ¬ x ≤ y := ds_le hxy hle
      exact br_f hxy (br_t rfl (br_t rfl (br_t rfl (br_t (by decide) (br_t rfl (br_f hx (br_t rfl (br_t rfl (br_t rfl (br_t rfl (br_t rfl (br_t rfl (br_t rfl (br_f hx (br_t rfl (br_t rfl H))))))))))))))))
    · refine ds_85 hn hm hd ((pk_un (by omega)).trans ((pk_un (by omega)).trans pk_us)) (fun e he g => (pk_un (by omega)).trans ((pk_un (by omega)).trans (pk_un (by omega)))) ((pk_un (by omega)).trans ((pk_un (by omega)).trans pk_us)) ?_
      refine ds_wn (c := 1) (r := 1) hm hd (by omega) pk_us ((pk_un (by omega)).trans pk_us) (by omega) pk_us ?_
      refine ds_lv hm hd pk_us ?_
      refine ds_cn (c := 2) (w := 1) hm hd (by omega) pk_us (fun k hk => ?_) (fun e he g => (pk_un (by omega)).trans ((pk_un (by omega)).trans (pk_un (by omega)))) (Or.inr ⟨by omega, rfl⟩) ?_
      · by_cases g : k = 0
        · rw [g]; exact ⟨1, by omega, (pk_un (by omega)).trans pk_us, pk_us⟩
        · rw [show k = 1 by omega]; exact ⟨0, by omega, pk_us, (pk_un (by omega)).trans pk_us⟩
      refine ds_st hm hd pk_us ?_
      refine ds_tt hm hd pk_us pk_us pk_us ?_
      refine ds_agD hn hm ((pk_un (by omega)).trans ((pk_un (by omega)).trans pk_us)) pk_us ((pk_un (by omega)).trans ((pk_un (by omega)).trans (pk_un (by omega)))) ((pk_un (by omega)).trans pk_us) ?_
      have hx : x ≤ y := ds_le' hle
      exact br_f hxy (br_t rfl (br_t rfl (br_t rfl (br_t (by decide) (br_t rfl (br_t hx (br_t rfl (br_t rfl (br_t rfl (br_t rfl (br_t rfl (br_t rfl (br_t rfl (br_t hx (br_t rfl (br_t rfl H))))))))))))))))
end
section
theorem ds_ca {post : Int32 → Prop} {L : Nat} {xs : Nat → Int32} (hL : L ≤ 3) (k : Nat) (hk : k < 3) (H : ∀ v, post v) : wpL_cellAt post L xs () (nI k) :=
  pk_le L k (fun _ => H 0) (fun z => ⟨pk_in k L z, H _⟩)
theorem i_vc (xs : Nat → Int32) (L : Nat) (hL : L ≤ 3) : wpL_law (fun r => r = 1) L xs :=
  ds_ca hL 0 (by omega) (fun x => ds_ca hL 1 (by omega) (fun y => ds_ca hL 2 (by omega) (fun z => ⟨1592, 25456, by omega, by omega, ds_law 1592 25456 (by omega) (by omega) x y z rfl⟩)))
end
