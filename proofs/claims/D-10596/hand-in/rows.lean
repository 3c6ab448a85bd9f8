section
/-! places -/
theorem dx_3 (n m : Nat) : 3 * nI n + nI m = nI (3 * n + m) := by
  rw [show (3 : Int32) = nI 3 from rfl, pk_mul, nI_add]
theorem dx_8 (n d : Nat) : 8 * nI n + nI d = nI (8 * n + d) := by
  rw [show (8 : Int32) = nI 8 from rfl, pk_mul, nI_add]
theorem dx_80 (n r : Nat) : 80 * nI n + nI r = nI (80 * n + r) := by
  rw [show (80 : Int32) = nI 80 from rfl, pk_mul, nI_add]
theorem dx_640 (n d : Nat) : 640 * nI n + 80 * nI d = nI (640 * n + 80 * d) := by
  rw [show (640 : Int32) = nI 640 from rfl, show (80 : Int32) = nI 80 from rfl, pk_mul, pk_mul, nI_add]
theorem dx_c8 {n d : Nat} (hn : n < 3) (hd : d < 8) : (8 * nI n + nI d).toNatClampNeg = 8 * n + d := pk_cl (8 * n + d) (dx_8 n d) (by omega)
theorem dx_v8 {n d : Nat} (hn : n < 3) (hd : d < 8) : vp_in (8 * nI n + nI d) 24 := pk_in (8 * n + d) 24 (by omega) (dx_8 n d)
theorem dx_c80 {n r : Nat} (hn : n < 3) (hr : r < 80) : (80 * nI n + nI r).toNatClampNeg = 80 * n + r := pk_cl (80 * n + r) (dx_80 n r) (by omega)
theorem dx_v80 {n r : Nat} (hn : n < 3) (hr : r < 80) : vp_in (80 * nI n + nI r) 240 := pk_in (80 * n + r) 240 (by omega) (dx_80 n r)
theorem dx_nm1 {p : Nat} (h : p < 2 ^ 31) : ¬ nI p = -1 := by
  intro e
  have h1 := congrArg Int32.toInt e
  rw [nI_toInt h, show (-1 : Int32).toInt = -1 from by decide] at h1
  omega
theorem dx_nb0 : vp_nar .boolean 0 = 0 := by first | rfl | decide
theorem dx_nb1 : vp_nar .boolean 1 = 1 := by first | rfl | decide
theorem dx_nr1 : narrow .boolean (.int 1) = .int 1 := by first | rfl | decide

section
variable {f : Int32} {a1 a2 a3 a4 a5 a6 a7 a8 a9 a10 a11 a12 a13 a14 a15 a16 a17 a18 a19 a20 a21 a22 : Nat → Int32}
variable {n d r k p m : Nat}

theorem dx_badStore {post : Int32 → Prop} (hn : n < 3) (hp : post 0) : wpX_badStore post (f, a1, a2, a3, a4, a5, a6, a7, a8, a9, a10, a11, a12, a13, a14, a15, a16, a17, a18, a19, a20, a21, a22) (nI n) :=
  br_f (nI_pos (by omega)) (br_t (nI_lt (b := 3) hn (by omega)) hp)
theorem dx_badStoreN {post : Int32 → Prop} {x : Int32} (h : ¬ x < 0 → ¬ x < 3) (hp : post 1) : wpX_badStore post (f, a1, a2, a3, a4, a5, a6, a7, a8, a9, a10, a11, a12, a13, a14, a15, a16, a17, a18, a19, a20, a21, a22) x :=
  br_c (fun _ => hp) (fun z => br_f (h z) hp)
theorem dx_badDoc {post : Int32 → Prop} (hd : d < 8) (hp : post 0) : wpX_badDocument post (f, a1, a2, a3, a4, a5, a6, a7, a8, a9, a10, a11, a12, a13, a14, a15, a16, a17, a18, a19, a20, a21, a22) (nI d) :=
  br_f (nI_pos (by omega)) (br_t (nI_lt (b := 8) hd (by omega)) hp)
theorem dx_badDocN {post : Int32 → Prop} {x : Int32} (h : ¬ x < 0 → ¬ x < 8) (hp : post 1) : wpX_badDocument post (f, a1, a2, a3, a4, a5, a6, a7, a8, a9, a10, a11, a12, a13, a14, a15, a16, a17, a18, a19, a20, a21, a22) x :=
  br_c (fun _ => hp) (fun z => br_f (h z) hp)
theorem dx_leafAt {post : Int32 → Prop} (hn : n < 3) (hd : d < 8) (hk : k < 80) (hp : post (a13 (640 * n + 80 * d + k))) : wpX_leafAt post (f, a1, a2, a3, a4, a5, a6, a7, a8, a9, a10, a11, a12, a13, a14, a15, a16, a17, a18, a19, a20, a21, a22) (nI n) (nI d) (nI k) := by
  have e : 640 * nI n + 80 * nI d + nI k = nI (640 * n + 80 * d + k) := by rw [dx_640, nI_add]
  have c : (640 * nI n + 80 * nI d + nI k).toNatClampNeg = 640 * n + 80 * d + k := pk_cl _ e (by omega)
  refine ⟨pk_in (640 * n + 80 * d + k) 1920 (by omega) e, ?_⟩
  rw [c]
  exact hp
theorem dx_fw0 {post : Int32 → Prop} (hn : n < 3) (hd : d < 8) (h : a12 (8 * n + d) = 0) (hp : post (-1)) : wpX_findWinner post (f, a1, a2, a3, a4, a5, a6, a7, a8, a9, a10, a11, a12, a13, a14, a15, a16, a17, a18, a19, a20, a21, a22) (nI n) (nI d) := by
  refine ⟨dx_v8 hn hd, nm_r (e' := 0) (by rw [dx_c8 hn hd, h]) ⟨1, ?_⟩⟩
  exact br_t (by decide) (br_t rfl hp)
theorem dx_fw1 {post : Int32 → Prop} (hn : n < 3) (hd : d < 8) (hr : r < 80) (h : a12 (8 * n + d) = 1) (h2 : a13 (640 * n + 80 * d) = nI r) (hp : post (nI r)) : wpX_findWinner post (f, a1, a2, a3, a4, a5, a6, a7, a8, a9, a10, a11, a12, a13, a14, a15, a16, a17, a18, a19, a20, a21, a22) (nI n) (nI d) := by
  have h2' : a13 (640 * n + 80 * d + 0) = nI r := h2
  refine ⟨dx_v8 hn hd, nm_r (e' := 1) (by rw [dx_c8 hn hd, h]) ⟨2, ?_⟩⟩
  refine br_f (by decide) (dx_leafAt (k := 0) hn hd (by omega) ?_)
  rw [h2']
  refine ⟨pk_in r 80 hr, br_c (fun _ => hp) (fun _ => nm_r (e' := 1) (by decide) ?_)⟩
  refine br_t (by decide) (br_f (by decide) (dx_leafAt (k := 0) hn hd (by omega) ?_))
  rw [h2']
  exact hp
theorem dx_frR {post : Int32 → Prop} {x y : Int32} (hd : d < 8) (h : a8 d = -1) (hp : post (-1)) : wpX_findRevision post (f, a1, a2, a3, a4, a5, a6, a7, a8, a9, a10, a11, a12, a13, a14, a15, a16, a17, a18, a19, a20, a21, a22) (nI d) (-1) x y :=
  br_t rfl ⟨pk_in d 8 hd, nm_r (e' := -1) (by rw [nI_clamp (by omega), h]) ⟨1, br_f (by decide) (br_t rfl hp)⟩⟩
theorem dx_frC {post : Int32 → Prop} {x y z : Int32} (hq : p < 80) (h : a6 p = -1) (hp : post (-1)) : wpX_findRevision post (f, a1, a2, a3, a4, a5, a6, a7, a8, a9, a10, a11, a12, a13, a14, a15, a16, a17, a18, a19, a20, a21, a22) z (nI p) x y :=
  br_f (dx_nm1 (by omega)) ⟨pk_in p 80 hq, nm_r (e' := -1) (by rw [nI_clamp (by omega), h]) ⟨1, br_f (by decide) (br_t rfl hp)⟩⟩
end
end
section
section
variable {f : Int32} {a1 a2 a3 a4 a5 a6 a7 a8 a9 a10 a11 a12 a13 a14 a15 a16 a17 a18 a19 a20 a21 a22 : Nat → Int32}
variable {n d r k p m : Nat}

theorem dx_pl0 {post : St2 → Prop} (hn : n < 3) (hd : d < 8) (hr : r < 80) (h1 : a1 r = nI d) (h : a12 (8 * n + d) = 0)
    (hp : post (f, a1, a2, a3, a4, a5, a6, a7, a8, a9, a10, a11, upd a12 (8 * n + d) 1, upd a13 (640 * n + 80 * d) (nI r), a14, a15, a16, a17, a18, a19, a20, a21, a22)) : wpX_putLeaf post (f, a1, a2, a3, a4, a5, a6, a7, a8, a9, a10, a11, a12, a13, a14, a15, a16, a17, a18, a19, a20, a21, a22) (nI n) (nI r) := by
  have c : (nI (8 * n + d)).toNatClampNeg = 8 * n + d := nI_clamp (by omega)
  have v : vp_in (nI (8 * n + d)) 24 := vp_in_nI (by omega) (by omega)
  have c2 : (nI (640 * n + 80 * d) + 0).toNatClampNeg = 640 * n + 80 * d := by rw [Int32.add_zero]; exact nI_clamp (by omega)
  have v2 : vp_in (nI (640 * n + 80 * d) + 0) 1920 := pk_in (640 * n + 80 * d) 1920 (by omega) (Int32.add_zero _)
  refine ⟨pk_in r 80 hr, nm_r (e' := nI d) (by rw [nI_clamp (by omega), h1]) (nm_r (dx_8 n d) (nm_r (dx_640 n d) ⟨1, ?_⟩))⟩
  refine br_f (by decide) (br_f (by decide) ⟨v, br_t (by rw [c, h] <;> decide) ⟨v, nm_r (e' := 0) (by rw [c, h]) ⟨1, ?_⟩⟩⟩)
  exact br_t (by decide) ⟨v2, nm_r (e' := upd a13 (640 * n + 80 * d) (nI r)) (by rw [c2]) ⟨v, v, nm_r (e' := upd a12 (8 * n + d) 1) (by rw [c, h] <;> rfl) hp⟩⟩
theorem dx_dl1 {post : St2 → Prop} (hn : n < 3) (hd : d < 8) (hr : r < 80) (h1 : a1 r = nI d) (h : a12 (8 * n + d) = 1) (h2 : a13 (640 * n + 80 * d) = nI r)
    (hp : post (f, a1, a2, a3, a4, a5, a6, a7, a8, a9, a10, a11, upd a12 (8 * n + d) 0, a13, a14, a15, a16, a17, a18, a19, a20, a21, a22)) : wpX_dropLeaf post (f, a1, a2, a3, a4, a5, a6, a7, a8, a9, a10, a11, a12, a13, a14, a15, a16, a17, a18, a19, a20, a21, a22) (nI n) (nI r) := by
  have c : (nI (8 * n + d)).toNatClampNeg = 8 * n + d := nI_clamp (by omega)
  have v : vp_in (nI (8 * n + d)) 24 := vp_in_nI (by omega) (by omega)
  have c2 : (nI (640 * n + 80 * d) + 0).toNatClampNeg = 640 * n + 80 * d := by rw [Int32.add_zero]; exact nI_clamp (by omega)
  have v2 : vp_in (nI (640 * n + 80 * d) + 0) 1920 := pk_in (640 * n + 80 * d) 1920 (by omega) (Int32.add_zero _)
  refine ⟨pk_in r 80 hr, nm_r (e' := nI d) (by rw [nI_clamp (by omega), h1]) (nm_r (dx_8 n d) (nm_r (dx_640 n d) ⟨1, ?_⟩))⟩
  refine br_f (by decide) ⟨v, br_f (by rw [c, h] <;> decide) ⟨v2, br_t (by rw [c2, h2]) ?_⟩⟩
  refine ⟨v, br_f (by rw [c, h] <;> decide) ⟨v, v, nm_r (e' := upd a12 (8 * n + d) 0) (by rw [c, h] <;> rfl) ⟨1, ?_⟩⟩⟩
  exact ⟨v, br_t (by rw [c, pk_us] <;> decide) hp⟩
theorem dx_lr {post : St2 → Prop} (hn : n < 3) (hd : d < 8) (hr : r < 80) (h2 : a2 r = -1) (h1 : a1 r = nI d) (h : a12 (8 * n + d) = 0)
    (hp : post (f, a1, a2, a3, a4, a5, a6, a7, a8, upd a9 (80 * n + r) 1, upd a10 (80 * n + r) 0, upd a11 (80 * n + r) 0, upd a12 (8 * n + d) 1, upd a13 (640 * n + 80 * d) (nI r), a14, a15, a16, a17, a18, a19, a20, a21, a22)) :
    wpX_learn post (f, a1, a2, a3, a4, a5, a6, a7, a8, a9, a10, a11, a12, a13, a14, a15, a16, a17, a18, a19, a20, a21, a22) (nI n) (nI r) := by
  have c := dx_c80 hn hr
  have v := dx_v80 hn hr
  refine ⟨pk_in r 80 hr, nm_r (e' := -1) (by rw [nI_clamp (by omega), h2]) ⟨v, nm_r (e' := upd a9 (80 * n + r) 1) (by rw [c]) ⟨v, nm_r (e' := upd a10 (80 * n + r) 0) (by rw [c]) ⟨v, nm_r (e' := upd a11 (80 * n + r) 0) (by rw [c]) (br_t rfl ?_)⟩⟩⟩⟩
  exact dx_pl0 hn hd hr h1 h hp
theorem dx_lc {post : St2 → Prop} (hn : n < 3) (hd : d < 8) (hr : r < 80) (hq : p < 80) (hne : p ≠ r) (h2 : a2 r = nI p) (h1 : a1 r = nI d) (h1' : a1 p = nI d) (h10 : a10 (80 * n + p) = 0)
    (h : a12 (8 * n + d) = 1) (h13 : a13 (640 * n + 80 * d) = nI p)
    (hp : post (f, a1, a2, a3, a4, a5, a6, a7, a8, upd a9 (80 * n + r) 1, upd (upd a10 (80 * n + r) 0) (80 * n + p) 1, upd a11 (80 * n + r) 0, upd (upd a12 (8 * n + d) 0) (8 * n + d) 1, upd a13 (640 * n + 80 * d) (nI r), a14, a15, a16, a17, a18, a19, a20, a21, a22)) :
    wpX_learn post (f, a1, a2, a3, a4, a5, a6, a7, a8, a9, a10, a11, a12, a13, a14, a15, a16, a17, a18, a19, a20, a21, a22) (nI n) (nI r) := by
  have c := dx_c80 hn hr
  have v := dx_v80 hn hr
  have c' := dx_c80 hn hq
  have v' := dx_v80 hn hq
  have e10 : upd a10 (80 * n + r) 0 (80 * n + p) = 0 := by rw [pk_un (by omega), h10]
  refine ⟨pk_in r 80 hr, nm_r (e' := nI p) (by rw [nI_clamp (by omega), h2]) ⟨v, nm_r (e' := upd a9 (80 * n + r) 1) (by rw [c]) ⟨v, nm_r (e' := upd a10 (80 * n + r) 0) (by rw [c]) ⟨v, nm_r (e' := upd a11 (80 * n + r) 0) (by rw [c]) (br_f (dx_nm1 (by omega)) ⟨v', br_t (by rw [c', e10]) ?_⟩)⟩⟩⟩⟩
  refine dx_dl1 hn hd hq h1' h h13 ?_
  refine ⟨v', v', nm_r (e' := upd (upd a10 (80 * n + r) 0) (80 * n + p) 1) (by rw [c', e10] <;> rfl) ?_⟩
  exact dx_pl0 hn hd hr h1 pk_us hp
theorem dx_st {post : St2 → Prop} {w : Int32} (hn : n < 3) (hd : d < 8) (hw : a14 n + 1 = w) (hp : post (f, a1, a2, a3, a4, a5, a6, a7, a8, a9, a10, a11, a12, a13, upd a14 n w, upd a15 (8 * n + d) w, a16, a17, a18, a19, a20, a21, a22)) : wpX_stampNow post (f, a1, a2, a3, a4, a5, a6, a7, a8, a9, a10, a11, a12, a13, a14, a15, a16, a17, a18, a19, a20, a21, a22) (nI n) (nI d) := by
  have c : (nI n).toNatClampNeg = n := nI_clamp (by omega)
  have v : vp_in (nI n) 3 := vp_in_nI hn (by omega)
  exact ⟨v, v, nm_r (e' := upd a14 n w) (by rw [c, hw]) ⟨v, dx_v8 hn hd, nm_r (e' := upd a15 (8 * n + d) w) (by rw [dx_c8 hn hd, c, pk_us]) hp⟩⟩
theorem dx_piv {post : St2 → Prop} {x : Int32} (hn : n < 3) (hd : d < 8) (h : a17 n = 0)
    (hp : post (f, a1, a2, a3, a4, a5, a6, a7, a8, a9, a10, a11, a12, a13, a14, a15, a16, upd a17 n 1, upd a18 (8 * n) (nI d), upd a19 (8 * n + d) 1, upd a20 (8 * n + d) x, a21, a22)) : wpX_putIntoView post (f, a1, a2, a3, a4, a5, a6, a7, a8, a9, a10, a11, a12, a13, a14, a15, a16, a17, a18, a19, a20, a21, a22) (nI n) (nI d) x := by
  have c : (nI n).toNatClampNeg = n := nI_clamp (by omega)
  have v : vp_in (nI n) 3 := vp_in_nI hn (by omega)
  have e0 : 8 * nI n + 0 = nI (8 * n) := dx_8 n 0
  have c0 : (8 * nI n + 0).toNatClampNeg = 8 * n := pk_cl (8 * n) e0 (by omega)
  have v0 : vp_in (8 * nI n + 0) 24 := pk_in (8 * n) 24 (by omega) e0
  refine ⟨dx_v8 hn hd, nm_r (e' := upd a20 (8 * n + d) x) (by rw [dx_c8 hn hd]) ⟨dx_v8 hn hd, nm_r (e' := upd a19 (8 * n + d) 1) (by rw [dx_c8 hn hd]) ⟨v, nm_r (e' := 0) (by rw [c, h]) ⟨1, ?_⟩⟩⟩⟩
  exact br_f (by decide) (br_t (by decide) ⟨v0, nm_r (e' := upd a18 (8 * n) (nI d)) (by rw [c0]) ⟨v, v, nm_r (e' := upd a17 n 1) (by rw [c, h] <;> rfl) hp⟩⟩)
theorem dx_tfv {post : St2 → Prop} (hn : n < 3) (hd : d < 8) (h : a17 n = 1) (h18 : a18 (8 * n) = nI d) (hp : post (f, a1, a2, a3, a4, a5, a6, a7, a8, a9, a10, a11, a12, a13, a14, a15, a16, upd a17 n 0, a18, upd a19 (8 * n + d) 0, a20, a21, a22)) : wpX_takeFromView post (f, a1, a2, a3, a4, a5, a6, a7, a8, a9, a10, a11, a12, a13, a14, a15, a16, a17, a18, a19, a20, a21, a22) (nI n) (nI d) := by
  have c : (nI n).toNatClampNeg = n := nI_clamp (by omega)
  have v : vp_in (nI n) 3 := vp_in_nI hn (by omega)
  have e0 : 8 * nI n + 0 = nI (8 * n) := dx_8 n 0
  have c0 : (8 * nI n + 0).toNatClampNeg = 8 * n := pk_cl (8 * n) e0 (by omega)
  have v0 : vp_in (8 * nI n + 0) 24 := pk_in (8 * n) 24 (by omega) e0
  refine ⟨1, br_f (by decide) ⟨v0, br_t (by rw [c0, h18]) ⟨v, v, nm_r (e' := upd a17 n 0) (by rw [c, h] <;> rfl) ⟨1, ?_⟩⟩⟩⟩
  exact ⟨v, br_t (by rw [c, pk_us] <;> decide) ⟨dx_v8 hn hd, nm_r (e' := upd a19 (8 * n + d) 0) (by rw [dx_c8 hn hd]) hp⟩⟩
theorem dx_rnP {post : St2 → Prop} {x : Int32} (hn : n < 3) (hd : d < 8) (hr : r < 80) (h12 : a12 (8 * n + d) = 1) (h13 : a13 (640 * n + 80 * d) = nI r) (h4 : a4 r = 0) (h3 : a3 r = x) (h19 : a19 (8 * n + d) = 0) (h17 : a17 n = 0)
    (hp : post (f, a1, a2, a3, a4, a5, a6, a7, a8, a9, a10, a11, a12, a13, a14, a15, a16, upd a17 n 1, upd a18 (8 * n) (nI d), upd a19 (8 * n + d) 1, upd a20 (8 * n + d) x, a21, a22)) : wpX_renew post (f, a1, a2, a3, a4, a5, a6, a7, a8, a9, a10, a11, a12, a13, a14, a15, a16, a17, a18, a19, a20, a21, a22) (nI n) (nI d) := by
  have c : (nI r).toNatClampNeg = r := nI_clamp (by omega)
  unfold wpX_renew
  refine dx_fw1 hn hd hr h12 h13 ?_
  refine br_f (dx_nm1 (by omega)) ⟨pk_in r 80 hr, br_t (by rw [c, h4]) ⟨dx_v8 hn hd, nm_r (e' := 0) (by rw [dx_c8 hn hd, h19]) (br_t rfl (br_t rfl (br_f (by decide) ⟨pk_in r 80 hr, ?_⟩)))⟩⟩
  rw [c, h3]
  exact dx_piv hn hd h17 hp
theorem dx_rnT {post : St2 → Prop} (hn : n < 3) (hd : d < 8) (hr : r < 80) (h12 : a12 (8 * n + d) = 1) (h13 : a13 (640 * n + 80 * d) = nI r) (h4 : ¬ a4 r = 0) (h19 : a19 (8 * n + d) = 1) (h17 : a17 n = 1) (h18 : a18 (8 * n) = nI d)
    (hp : post (f, a1, a2, a3, a4, a5, a6, a7, a8, a9, a10, a11, a12, a13, a14, a15, a16, upd a17 n 0, a18, upd a19 (8 * n + d) 0, a20, a21, a22)) : wpX_renew post (f, a1, a2, a3, a4, a5, a6, a7, a8, a9, a10, a11, a12, a13, a14, a15, a16, a17, a18, a19, a20, a21, a22) (nI n) (nI d) := by
  have c : (nI r).toNatClampNeg = r := nI_clamp (by omega)
  unfold wpX_renew
  refine dx_fw1 hn hd hr h12 h13 ?_
  refine br_f (dx_nm1 (by omega)) ⟨pk_in r 80 hr, br_f (by rw [c]; exact h4) ⟨dx_v8 hn hd, nm_r (e' := 1) (by rw [dx_c8 hn hd, h19]) (br_f (by decide) (br_t rfl (br_f (by decide) ?_)))⟩⟩
  exact dx_tfv hn hd h17 h18 (br_t rfl hp)
theorem dx_rnN {post : St2 → Prop} (hn : n < 3) (hd : d < 8) (hr : r < 80) (h12 : a12 (8 * n + d) = 1) (h13 : a13 (640 * n + 80 * d) = nI r) (h4 : ¬ a4 r = 0) (h19 : a19 (8 * n + d) = 0)
    (hp : post (f, a1, a2, a3, a4, a5, a6, a7, a8, a9, a10, a11, a12, a13, a14, a15, a16, a17, a18, a19, a20, a21, a22)) : wpX_renew post (f, a1, a2, a3, a4, a5, a6, a7, a8, a9, a10, a11, a12, a13, a14, a15, a16, a17, a18, a19, a20, a21, a22) (nI n) (nI d) := by
  have c : (nI r).toNatClampNeg = r := nI_clamp (by omega)
  unfold wpX_renew
  refine dx_fw1 hn hd hr h12 h13 ?_
  exact br_f (dx_nm1 (by omega)) ⟨pk_in r 80 hr, br_f (by rw [c]; exact h4) ⟨dx_v8 hn hd, nm_r (e' := 0) (by rw [dx_c8 hn hd, h19]) (br_t rfl (br_t rfl (br_t rfl hp)))⟩⟩
end
end
section
section
variable {f : Int32} {a1 a2 a3 a4 a5 a6 a7 a8 a9 a10 a11 a12 a13 a14 a15 a16 a17 a18 a19 a20 a21 a22 : Nat → Int32}
variable {n d r k p q m : Nat}

theorem dx_mkR {post : Int32 → St2 → Prop} {x : Int32} (hq : q < 80) (hd : d < 8) (h8 : a8 d = -1)
    (hp : post (nI q) (nI (q + 1), upd a1 q (nI d), upd a2 q (-1), upd a3 q x, upd a4 q 0, upd a5 q 1, upd a6 q (-1), upd a7 q (-1), upd a8 d (nI q), a9, a10, a11, a12, a13, a14, a15, a16, a17, a18, a19, a20, a21, a22)) :
    wpX_makeRevision post (nI q, a1, a2, a3, a4, a5, a6, a7, a8, a9, a10, a11, a12, a13, a14, a15, a16, a17, a18, a19, a20, a21, a22) (nI d) (-1) x 0 := by
  have c : (nI q).toNatClampNeg = q := nI_clamp (by omega)
  have v : vp_in (nI q) 80 := vp_in_nI hq (by omega)
  have cd : (nI d).toNatClampNeg = d := nI_clamp (by omega)
  have vd : vp_in (nI d) 8 := vp_in_nI hd (by omega)
  refine ⟨v, nm_r (e' := upd a1 q (nI d)) (by rw [c]) ⟨v, nm_r (e' := upd a2 q (-1)) (by rw [c]) ⟨v, nm_r (e' := upd a3 q x) (by rw [c]) ⟨v, nm_r (e' := upd a4 q 0) (by rw [c, dx_nb0]) (br_t rfl ?_)⟩⟩⟩⟩
  refine ⟨v, nm_r (e' := upd a5 q 1) (by rw [c]) ⟨v, nm_r (e' := upd a6 q (-1)) (by rw [c]) (br_t rfl ⟨vd, ?_⟩)⟩⟩
  exact ⟨v, nm_r (e' := upd a7 q (-1)) (by rw [c, cd, h8]) (br_t rfl ⟨vd, nm_r (e' := upd a8 d (nI q)) (by rw [cd]) (nm_r (nI_1 q) hp)⟩)⟩
theorem dx_mkC {post : Int32 → St2 → Prop} {x w : Int32} (hq : q < 80) (hr : p < 80) (hne : p ≠ q) (h6 : a6 p = -1) (h5 : a5 p + 1 = w)
    (hp : post (nI q) (nI (q + 1), upd a1 q (nI d), upd a2 q (nI p), upd a3 q x, upd a4 q 1, upd a5 q w, upd (upd a6 q (-1)) p (nI q), upd a7 q (-1), a8, a9, a10, a11, a12, a13, a14, a15, a16, a17, a18, a19, a20, a21, a22)) :
    wpX_makeRevision post (nI q, a1, a2, a3, a4, a5, a6, a7, a8, a9, a10, a11, a12, a13, a14, a15, a16, a17, a18, a19, a20, a21, a22) (nI d) (nI p) x 1 := by
  have c : (nI q).toNatClampNeg = q := nI_clamp (by omega)
  have v : vp_in (nI q) 80 := vp_in_nI hq (by omega)
  have cp : (nI p).toNatClampNeg = p := nI_clamp (by omega)
  have vp : vp_in (nI p) 80 := vp_in_nI hr (by omega)
  have z : ¬ nI p = -1 := dx_nm1 (by omega)
  refine ⟨v, nm_r (e' := upd a1 q (nI d)) (by rw [c]) ⟨v, nm_r (e' := upd a2 q (nI p)) (by rw [c]) ⟨v, nm_r (e' := upd a3 q x) (by rw [c]) ⟨v, nm_r (e' := upd a4 q 1) (by rw [c, dx_nb1]) (br_f z ⟨vp, ?_⟩)⟩⟩⟩⟩
  refine ⟨v, nm_r (e' := upd a5 q w) (by rw [c, cp, h5]) ⟨v, nm_r (e' := upd a6 q (-1)) (by rw [c]) (br_f z ⟨vp, ?_⟩)⟩⟩
  exact ⟨v, nm_r (e' := upd a7 q (-1)) (by rw [c, cp, pk_un hne, h6]) (br_f z ⟨vp, nm_r (e' := upd (upd a6 q (-1)) p (nI q)) (by rw [cp]) (nm_r (nI_1 q) hp)⟩)⟩

theorem dx_edit {post : Int32 → St2 → Prop} {x : Int32} (hn : n < 3) (hd : d < 8) (h8 : a8 d = -1) (h9 : a9 (80 * n + 0) = 0) (h12 : a12 (8 * n + d) = 0) (h14 : a14 n = 0) (h17 : a17 n = 0) (h19 : a19 (8 * n + d) = 0)
    (hp : post 0 (nI 1, upd a1 0 (nI d), upd a2 0 (-1), upd a3 0 x, upd a4 0 0, upd a5 0 1, upd a6 0 (-1), upd a7 0 (-1), upd a8 d (nI 0), upd a9 (80 * n + 0) 1, upd a10 (80 * n + 0) 0, upd (upd a11 (80 * n + 0) 0) (80 * n + 0) 1, upd a12 (8 * n + d) 1, upd a13 (640 * n + 80 * d) (nI 0), upd a14 n 1, upd a15 (8 * n + d) 1, a16, upd a17 n 1, upd a18 (8 * n) (nI d), upd a19 (8 * n + d) 1, upd a20 (8 * n + d) x, a21, a22)) :
    wpX_edit post (nI 0, a1, a2, a3, a4, a5, a6, a7, a8, a9, a10, a11, a12, a13, a14, a15, a16, a17, a18, a19, a20, a21, a22) (nI n) (nI d) x := by
  have c := dx_c80 (r := 0) hn (by omega)
  have v := dx_v80 (r := 0) hn (by omega)
  unfold wpX_edit
  refine dx_badStore hn (br_t rfl (dx_badDoc hd (br_t rfl (dx_fw0 hn hd h12 ?_))))
  unfold wpX_change
  refine dx_frR hd h8 (br_t rfl (br_f (by decide) (br_t rfl (dx_mkR (q := 0) (by omega) hd h8 ?_))))
  refine ⟨v, br_t (by rw [c, h9]) (dx_lr (r := 0) hn hd (by omega) pk_us pk_us h12 ⟨v, nm_r (e' := upd (upd a11 (80 * n + 0) 0) (80 * n + 0) 1) (by rw [c]) ?_⟩)⟩
  exact dx_st (w := 1) hn hd (by rw [h14] <;> rfl) (dx_rnP (r := 0) hn hd (by omega) pk_us pk_us pk_us pk_us h19 h17 hp)

theorem dx_nlf0 {post : Int32 → Prop} (hn : n < 3) (hd : d < 8) (h12 : a12 (8 * n + d) = 1) (hp : post 0) : wpX_noLeaf post (f, a1, a2, a3, a4, a5, a6, a7, a8, a9, a10, a11, a12, a13, a14, a15, a16, a17, a18, a19, a20, a21, a22) (nI n) (nI d) 0 :=
  br_f (by decide) ⟨dx_v8 hn hd, br_t (by rw [dx_c8 hn hd, h12] <;> decide) hp⟩
theorem dx_nlf1 {post : Int32 → Prop} {x : Int32} (hn : n < 3) (hd : d < 8) (h12 : a12 (8 * n + d) = 1) (hx : ¬ x = 0) (hp : post 1) : wpX_noLeaf post (f, a1, a2, a3, a4, a5, a6, a7, a8, a9, a10, a11, a12, a13, a14, a15, a16, a17, a18, a19, a20, a21, a22) (nI n) (nI d) x := by
  refine br_c (fun _ => hp) (fun z => ⟨dx_v8 hn hd, br_f ?_ hp⟩)
  rw [dx_c8 hn hd, h12]
  obtain ⟨j, hj, rfl⟩ := nI_of z
  refine nI_nlt (b := 1) ?_ hj
  rcases Nat.eq_zero_or_pos j with e | e
  · exact absurd (by rw [e]; rfl) hx
  · exact e
theorem dx_delN {post : Int32 → St2 → Prop} {x : Int32} (hn : n < 3) (hd : d < 8) (h12 : a12 (8 * n + d) = 1) (hx : ¬ x = 0) (hp : post (-1000000003) (f, a1, a2, a3, a4, a5, a6, a7, a8, a9, a10, a11, a12, a13, a14, a15, a16, a17, a18, a19, a20, a21, a22)) : wpX_delete post (f, a1, a2, a3, a4, a5, a6, a7, a8, a9, a10, a11, a12, a13, a14, a15, a16, a17, a18, a19, a20, a21, a22) (nI n) (nI d) x := by
  unfold wpX_delete
  exact dx_badStore hn (br_t rfl (dx_badDoc hd (br_t rfl (dx_nlf1 hn hd h12 hx (br_f (by decide) hp)))))
theorem dx_del0 {post : Int32 → St2 → Prop} (hn : n < 3) (hd : d < 8) (h1 : a1 0 = nI d) (h4 : a4 0 = 0) (h5 : a5 0 = 1) (h6 : a6 0 = -1) (h9 : a9 (80 * n + 1) = 0) (h10 : a10 (80 * n + 0) = 0) (h12 : a12 (8 * n + d) = 1) (h13 : a13 (640 * n + 80 * d) = nI 0) (h14 : a14 n = 1) (h17 : a17 n = 1) (h18 : a18 (8 * n) = nI d) (h19 : a19 (8 * n + d) = 1)
    (hp : post 1 (nI 2, upd a1 1 (nI d), upd a2 1 (nI 0), upd a3 1 0, upd a4 1 1, upd a5 1 2, upd (upd a6 1 (-1)) 0 (nI 1), upd a7 1 (-1), a8, upd a9 (80 * n + 1) 1, upd (upd a10 (80 * n + 1) 0) (80 * n + 0) 1, upd (upd a11 (80 * n + 1) 0) (80 * n + 1) 1, upd (upd a12 (8 * n + d) 0) (8 * n + d) 1, upd a13 (640 * n + 80 * d) (nI 1), upd a14 n 2, upd a15 (8 * n + d) 2, a16, upd a17 n 0, a18, upd a19 (8 * n + d) 0, a20, a21, a22)) :
    wpX_delete post (nI 1, a1, a2, a3, a4, a5, a6, a7, a8, a9, a10, a11, a12, a13, a14, a15, a16, a17, a18, a19, a20, a21, a22) (nI n) (nI d) 0 := by
  have c := dx_c80 (r := 1) hn (by omega)
  have v := dx_v80 (r := 1) hn (by omega)
  have h13' : a13 (640 * n + 80 * d + 0) = nI 0 := h13
  have c0 : (nI 0).toNatClampNeg = 0 := nI_clamp (by omega)
  unfold wpX_delete
  refine dx_badStore hn (br_t rfl (dx_badDoc hd (br_t rfl (dx_nlf0 hn hd h12 (br_t rfl (dx_leafAt (k := 0) hn hd (by omega) ?_))))))
  rw [h13']
  refine ⟨pk_in 0 80 (by omega), br_t (by rw [c0, h4]) (dx_leafAt (k := 0) hn hd (by omega) ?_)⟩
  rw [h13']
  unfold wpX_change
  refine dx_frC (p := 0) (by omega) h6 (br_t rfl (br_f (by decide) (br_t rfl (dx_mkC (q := 1) (p := 0) (w := 2) (by omega) (by omega) (by omega) h6 (by rw [h5] <;> rfl) ?_))))
  refine ⟨v, br_t (by rw [c, h9]) (dx_lc (r := 1) (p := 0) hn hd (by omega) (by omega) (by omega) pk_us pk_us (by rw [pk_un (by omega), h1]) h10 h12 h13 ⟨v, nm_r (e' := upd (upd a11 (80 * n + 1) 0) (80 * n + 1) 1) (by rw [c]) ?_⟩)⟩
  exact dx_st (w := 2) hn hd (by rw [h14] <;> rfl) (dx_rnT (r := 1) hn hd (by omega) pk_us pk_us (by rw [pk_us] <;> decide) h19 h17 h18 hp)
end
end
section
section
variable {f : Int32} {a1 a2 a3 a4 a5 a6 a7 a8 a9 a10 a11 a12 a13 a14 a15 a16 a17 a18 a19 a20 a21 a22 : Nat → Int32}
variable {n d r k p q m : Nat}

theorem dx_bodyB {post : Int32 → Prop} {x y : Int32} (h : ¬ x < 0 → ¬ x < 3) (hp : post (-1000000001)) : wpX_body post (f, a1, a2, a3, a4, a5, a6, a7, a8, a9, a10, a11, a12, a13, a14, a15, a16, a17, a18, a19, a20, a21, a22) x y := by
  unfold wpX_body
  exact dx_badStoreN h (br_f (by decide) hp)
theorem dx_bodyE {post : Int32 → Prop} (hm : m < 3) (hp : post (-1000000003)) : wpX_body post (nI 0, a1, a2, a3, a4, a5, a6, a7, a8, a9, a10, a11, a12, a13, a14, a15, a16, a17, a18, a19, a20, a21, a22) (nI m) 0 := by
  unfold wpX_body
  exact dx_badStore hm (br_t rfl (br_f (by decide) (br_f (by decide) (br_f (by decide) hp))))
theorem dx_bodyN {post : Int32 → Prop} (hm : m < 3) (hq : 0 < q) (hq2 : q < 80) (h9 : a9 (80 * m + 0) = 0) (hp : post (-1000000003)) : wpX_body post (nI q, a1, a2, a3, a4, a5, a6, a7, a8, a9, a10, a11, a12, a13, a14, a15, a16, a17, a18, a19, a20, a21, a22) (nI m) 0 := by
  have c := dx_c80 (r := 0) hm (by omega)
  have v := dx_v80 (r := 0) hm (by omega)
  unfold wpX_body
  exact dx_badStore hm (br_t rfl (br_f (by decide) (br_t (nI_lt (a := 0) hq (by omega)) (br_t rfl ⟨v, br_t (c.symm ▸ h9) hp⟩))))
theorem dx_bodyY {post : Int32 → Prop} {x : Int32} (hm : m < 3) (hq : 0 < q) (hq2 : q < 80) (h9 : ¬ a9 (80 * m + 0) = 0) (h11 : ¬ a11 (80 * m + 0) = 0) (h3 : a3 0 = x) (hp : post x) : wpX_body post (nI q, a1, a2, a3, a4, a5, a6, a7, a8, a9, a10, a11, a12, a13, a14, a15, a16, a17, a18, a19, a20, a21, a22) (nI m) 0 := by
  have c : (80 * nI m + 0).toNatClampNeg = 80 * m + 0 := dx_c80 (r := 0) hm (by omega)
  have v : vp_in (80 * nI m + 0) 240 := dx_v80 (r := 0) hm (by omega)
  have c0 : (0 : Int32).toNatClampNeg = 0 := by decide
  unfold wpX_body
  refine dx_badStore hm (br_t rfl (br_f (by decide) (br_t (nI_lt (a := 0) hq (by omega)) (br_t rfl ⟨v, br_f (by rw [c]; exact h9) ⟨v, br_f (by rw [c]; exact h11) ⟨pk_in 0 80 (by omega), ?_⟩⟩⟩))))
  rw [c0, h3]
  exact hp
theorem dx_winB {post : Int32 → Prop} {x y : Int32} (h : (¬ x < 0 → ¬ x < 3) ∨ ((∃ n : Nat, n < 3 ∧ x = nI n) ∧ (¬ y < 0 → ¬ y < 8))) (hp : post (-1000000001)) : wpX_winner post (f, a1, a2, a3, a4, a5, a6, a7, a8, a9, a10, a11, a12, a13, a14, a15, a16, a17, a18, a19, a20, a21, a22) x y := by
  unfold wpX_winner
  rcases h with h | ⟨⟨n, hn, rfl⟩, h⟩
  · exact dx_badStoreN h (br_f (by decide) hp)
  · exact dx_badStore hn (br_t rfl (dx_badDocN h (br_f (by decide) hp)))
theorem dx_win1 {post : Int32 → Prop} (hn : n < 3) (hd : d < 8) (hr : r < 80) (h12 : a12 (8 * n + d) = 1) (h13 : a13 (640 * n + 80 * d) = nI r) (hp : post (nI r)) : wpX_winner post (f, a1, a2, a3, a4, a5, a6, a7, a8, a9, a10, a11, a12, a13, a14, a15, a16, a17, a18, a19, a20, a21, a22) (nI n) (nI d) := by
  unfold wpX_winner
  exact dx_badStore hn (br_t rfl (dx_badDoc hd (br_t rfl (dx_fw1 hn hd hr h12 h13 (br_f (dx_nm1 (by omega)) hp)))))
theorem dx_totB {post : Int32 → Prop} {x : Int32} (h : ¬ x < 0 → ¬ x < 3) (hp : post (-1000000001)) : wpX_total post (f, a1, a2, a3, a4, a5, a6, a7, a8, a9, a10, a11, a12, a13, a14, a15, a16, a17, a18, a19, a20, a21, a22) x := by
  unfold wpX_total
  exact dx_badStoreN h (br_f (by decide) hp)
theorem dx_tot0 {post : Int32 → Prop} (hn : n < 3) (h17 : a17 n = 0) (hp : post 0) : wpX_total post (f, a1, a2, a3, a4, a5, a6, a7, a8, a9, a10, a11, a12, a13, a14, a15, a16, a17, a18, a19, a20, a21, a22) (nI n) := by
  have c : (nI n).toNatClampNeg = n := nI_clamp (by omega)
  have v : vp_in (nI n) 3 := vp_in_nI hn (by omega)
  unfold wpX_total
  refine dx_badStore hn (br_t rfl ⟨1, ?_⟩)
  exact ⟨v, br_t (by rw [c, h17] <;> decide) hp⟩
theorem dx_tot1 {post : Int32 → Prop} {x : Int32} (hn : n < 3) (hd : d < 8) (h17 : a17 n = 1) (h18 : a18 (8 * n) = nI d) (h20 : a20 (8 * n + d) = x) (hp : post x) : wpX_total post (f, a1, a2, a3, a4, a5, a6, a7, a8, a9, a10, a11, a12, a13, a14, a15, a16, a17, a18, a19, a20, a21, a22) (nI n) := by
  have c : (nI n).toNatClampNeg = n := nI_clamp (by omega)
  have v : vp_in (nI n) 3 := vp_in_nI hn (by omega)
  have e0 : 8 * nI n + 0 = nI (8 * n) := dx_8 n 0
  have c0 : (8 * nI n + 0).toNatClampNeg = 8 * n := pk_cl (8 * n) e0 (by omega)
  have v0 : vp_in (8 * nI n + 0) 24 := pk_in (8 * n) 24 (by omega) e0
  unfold wpX_total
  refine dx_badStore hn (br_t rfl ⟨2, ?_⟩)
  refine ⟨v, br_f (by rw [c, h17] <;> decide) ⟨v0, ?_⟩⟩
  rw [c0, h18]
  refine ⟨dx_v8 hn hd, nm_r (e' := x) (by rw [dx_c8 hn hd, h20, Int32.zero_add]) (nm_r (e' := 1) (by decide) ?_)⟩
  exact ⟨v, br_t (by rw [c, h17] <;> decide) hp⟩
end
end
section
/-- the stamps of a state -/
def dx_a15 (u : St2) : Nat → Int32 := u.2.2.2.2.2.2.2.2.2.2.2.2.2.2.2.1
section
variable {f : Int32} {a1 a2 a3 a4 a5 a6 a7 a8 a9 a10 a11 a12 a13 a14 a15 a16 a17 a18 a19 a20 a21 a22 : Nat → Int32}
variable {n d r k p q m : Nat}

theorem dx_nc0 {post : Int32 → Prop} {x : Int32} (hn : n < 3) (h : ∀ j, j < 8 → a15 (8 * n + j) ≤ x) (hp : post (-1)) : wpX_nextChanged post (f, a1, a2, a3, a4, a5, a6, a7, a8, a9, a10, a11, a12, a13, a14, a15, a16, a17, a18, a19, a20, a21, a22) (nI n) x :=
  pk_loop (σ := Unit) (fun fu i _ => wX_nextChanged_5 post (nI n) x f a1 a2 a3 a4 a5 a6 a7 a8 a9 a10 a11 a12 a13 a14 a15 a16 a17 a18 a19 a20 a21 a22 fu (-1) (nI i)) (fun _ _ => True) 8 0 () (by omega) trivial
    (fun fu _ _ => pk_le 8 8 (fun _ => hp) (fun z => absurd z (by omega)))
    (fun fu i _ hi _ hw => pk_le 8 i (fun z => absurd z (by omega)) (fun _ => ⟨dx_v8 hn hi, nm_r (e' := a15 (8 * n + i)) (by rw [dx_c8 hn hi]) (br_t (h i hi) (nm_r (nI_1 i) (hw () trivial)))⟩))
theorem dx_nc1 {post : Int32 → Prop} {x : Int32} (hn : n < 3) (hd : d < 8) (h : ∀ j, j < 8 → j ≠ d → a15 (8 * n + j) ≤ x) (h1 : ¬ a15 (8 * n + d) ≤ x) (hp : post (nI d)) : wpX_nextChanged post (f, a1, a2, a3, a4, a5, a6, a7, a8, a9, a10, a11, a12, a13, a14, a15, a16, a17, a18, a19, a20, a21, a22) (nI n) x := by
  refine pk_loop (σ := Unit) (fun fu i _ => wX_nextChanged_5 post (nI n) x f a1 a2 a3 a4 a5 a6 a7 a8 a9 a10 a11 a12 a13 a14 a15 a16 a17 a18 a19 a20 a21 a22 fu (if i ≤ d then -1 else nI d) (nI i)) (fun _ _ => True) 8 0 () (by omega) trivial ?_ ?_
  · intro fu _ _
    show wX_nextChanged_5 post (nI n) x f a1 a2 a3 a4 a5 a6 a7 a8 a9 a10 a11 a12 a13 a14 a15 a16 a17 a18 a19 a20 a21 a22 (fu + 1) (if 8 ≤ d then -1 else nI d) (nI 8)
    rw [if_neg (by omega)]
    exact pk_le 8 8 (fun _ => hp) (fun z => absurd z (by omega))
  · intro fu i _ hi _ hw
    have w : wX_nextChanged_5 post (nI n) x f a1 a2 a3 a4 a5 a6 a7 a8 a9 a10 a11 a12 a13 a14 a15 a16 a17 a18 a19 a20 a21 a22 fu (if i + 1 ≤ d then -1 else nI d) (nI (i + 1)) := hw () trivial
    show wX_nextChanged_5 post (nI n) x f a1 a2 a3 a4 a5 a6 a7 a8 a9 a10 a11 a12 a13 a14 a15 a16 a17 a18 a19 a20 a21 a22 (fu + 1) (if i ≤ d then -1 else nI d) (nI i)
    by_cases e : i = d
    · subst e
      rw [if_neg (by omega)] at w
      rw [if_pos (by omega)]
      exact pk_le 8 i (fun z => absurd z (by omega)) (fun _ => ⟨dx_v8 hn hi, nm_r (e' := a15 (8 * n + i)) (by rw [dx_c8 hn hi]) (br_f h1 (br_t rfl (nm_r (nI_1 i) w)))⟩)
    · have g : (if i + 1 ≤ d then (-1 : Int32) else nI d) = (if i ≤ d then -1 else nI d) := by
        by_cases t : i ≤ d
        · rw [if_pos t, if_pos (by omega)]
        · rw [if_neg t, if_neg (by omega)]
      rw [g] at w
      exact pk_le 8 i (fun z => absurd z (by omega)) (fun _ => ⟨dx_v8 hn hi, nm_r (e' := a15 (8 * n + i)) (by rw [dx_c8 hn hi]) (br_t (h i hi e) (nm_r (nI_1 i) w))⟩)
theorem dx_cb {post : St2 → Prop} (hn : n < 3) (hm : m < 3) (hd : d < 8) (hr : r < 80) (h12 : a12 (8 * n + d) = 1) (h13 : a13 (640 * n + 80 * d) = nI r)
    (hp : ∀ b, post (f, a1, a2, a3, a4, a5, a6, a7, a8, a9, a10, b, a12, a13, a14, a15, a16, a17, a18, a19, a20, a21, a22)) : wpX_copyBodies post (f, a1, a2, a3, a4, a5, a6, a7, a8, a9, a10, a11, a12, a13, a14, a15, a16, a17, a18, a19, a20, a21, a22) (nI n) (nI m) (nI d) := by
  have h13' : a13 (640 * n + 80 * d + 0) = nI r := h13
  refine ⟨dx_v8 hn hd, nm_r (e' := 1) (by rw [dx_c8 hn hd, h12]) ⟨2, ?_⟩⟩
  refine br_f (by decide) (dx_leafAt (k := 0) hn hd (by omega) ?_)
  rw [h13']
  refine ⟨dx_v80 hn hr, nm_e ⟨dx_v80 hm hr, br_c (fun _ => br_c (fun _ => ⟨dx_v80 hm hr, nm_e (nm_r (e' := 1) (by decide) ?_)⟩) (fun _ => ⟨dx_v80 hm hr, nm_e (nm_r (e' := 1) (by decide) ?_)⟩)) (fun _ => ⟨dx_v80 hm hr, nm_e (nm_r (e' := 1) (by decide) ?_)⟩)⟩⟩
  · exact br_t (by decide) (hp _)
  · exact br_t (by decide) (hp _)
  · exact br_t (by decide) (hp _)
/-- the end of copyDocument: all is learned -/
theorem dx_cdX {post : Int32 → St2 → Prop} (hn : n < 3) (hm : m < 3) (hne : n ≠ m) (hd : d < 8) (hr : r < 80) (h12 : a12 (8 * n + d) = 1) (h13 : a13 (640 * n + 80 * d) = nI r)
    (h12' : a12 (8 * m + d) = 1) (h13' : a13 (640 * m + 80 * d) = nI r) (h19 : a19 (8 * m + d) = 0) (h17 : a17 m = 0)
    (hp : ∀ u : St2, (∀ j, j < 8 → dx_a15 u (8 * n + j) = a15 (8 * n + j)) → post 1 u) (fu : Nat) :
    wX_copyDocument_6 post (nI n) (nI m) (nI d) (fu + 1) 1 (nI q) (nI q) a1 a2 a3 a4 a5 a6 a7 a8 a9 a10 a11 a12 a13 a14 a15 a16 a17 a18 a19 a20 a21 a22 := by
  refine br_t (Int32.le_refl _) (br_f (by decide) (dx_cb hn hm hd hr h12 h13 (fun b => ?_)))
  refine dx_st (w := a14 m + 1) hm hd rfl ?_
  have K : ∀ j, j < 8 → upd a15 (8 * m + d) (a14 m + 1) (8 * n + j) = a15 (8 * n + j) := fun j hj => pk_un (by omega)
  by_cases h4 : a4 r = 0
  · exact dx_rnP hm hd hr h12' h13' h4 rfl h19 h17 ⟨dx_nr1, hp _ K⟩
  · exact dx_rnN hm hd hr h12' h13' h4 h19 ⟨dx_nr1, hp _ K⟩
theorem dx_cd1 {post : Int32 → St2 → Prop} (hn : n < 3) (hm : m < 3) (hne : n ≠ m) (hd : d < 8) (h1 : a1 0 = nI d) (h2 : a2 0 = -1) (h9 : ¬ a9 (80 * n + 0) = 0) (h9' : a9 (80 * m + 0) = 0)
    (h12 : a12 (8 * n + d) = 1) (h12' : a12 (8 * m + d) = 0) (h13 : a13 (640 * n + 80 * d) = nI 0) (h19 : a19 (8 * m + d) = 0) (h17 : a17 m = 0)
    (hp : ∀ u : St2, (∀ j, j < 8 → dx_a15 u (8 * n + j) = a15 (8 * n + j)) → post 1 u) :
    wpX_copyDocument post (nI 1, a1, a2, a3, a4, a5, a6, a7, a8, a9, a10, a11, a12, a13, a14, a15, a16, a17, a18, a19, a20, a21, a22) (nI n) (nI m) (nI d) := by
  have c : (80 * nI n + 0).toNatClampNeg = 80 * n + 0 := dx_c80 (r := 0) hn (by omega)
  have v : vp_in (80 * nI n + 0) 240 := dx_v80 (r := 0) hn (by omega)
  have c' : (80 * nI m + 0).toNatClampNeg = 80 * m + 0 := dx_c80 (r := 0) hm (by omega)
  have v' : vp_in (80 * nI m + 0) 240 := dx_v80 (r := 0) hm (by omega)
  have c0 : (0 : Int32).toNatClampNeg = 0 := by decide
  refine ⟨2, ?_⟩
  refine br_f (by decide) ⟨pk_in 0 80 (by omega), br_t (by rw [c0, h1]) ⟨v, br_f (by rw [c]; exact h9) ⟨v', br_t (by rw [c']; exact h9') ?_⟩⟩⟩
  refine dx_lr (r := 0) hm hd (by omega) h2 h1 h12' (nm_r (e' := nI 1) (by decide) ?_)
  exact dx_cdX (q := 1) (r := 0) hn hm hne hd (by omega) (by rw [pk_un (by omega), h12]) (by rw [pk_un (by omega), h13]) pk_us pk_us h19 h17 hp 0
theorem dx_cd2 {post : Int32 → St2 → Prop} (hn : n < 3) (hm : m < 3) (hne : n ≠ m) (hd : d < 8) (h1 : a1 0 = nI d) (h1' : a1 1 = nI d) (h2 : a2 0 = -1) (h2' : a2 1 = nI 0) (h9 : ¬ a9 (80 * n + 0) = 0) (h9' : a9 (80 * m + 0) = 0)
    (g9 : ¬ a9 (80 * n + 1) = 0) (g9' : a9 (80 * m + 1) = 0)
    (h12 : a12 (8 * n + d) = 1) (h12' : a12 (8 * m + d) = 0) (h13 : a13 (640 * n + 80 * d) = nI 1) (h19 : a19 (8 * m + d) = 0) (h17 : a17 m = 0)
    (hp : ∀ u : St2, (∀ j, j < 8 → dx_a15 u (8 * n + j) = a15 (8 * n + j)) → post 1 u) :
    wpX_copyDocument post (nI 2, a1, a2, a3, a4, a5, a6, a7, a8, a9, a10, a11, a12, a13, a14, a15, a16, a17, a18, a19, a20, a21, a22) (nI n) (nI m) (nI d) := by
  have c : (80 * nI n + 0).toNatClampNeg = 80 * n + 0 := dx_c80 (r := 0) hn (by omega)
  have v : vp_in (80 * nI n + 0) 240 := dx_v80 (r := 0) hn (by omega)
  have c' : (80 * nI m + 0).toNatClampNeg = 80 * m + 0 := dx_c80 (r := 0) hm (by omega)
  have v' : vp_in (80 * nI m + 0) 240 := dx_v80 (r := 0) hm (by omega)
  have c0 : (0 : Int32).toNatClampNeg = 0 := by decide
  have d1 := dx_c80 (r := 1) hn (by omega)
  have e1 := dx_v80 (r := 1) hn (by omega)
  have d1' := dx_c80 (r := 1) hm (by omega)
  have e1' := dx_v80 (r := 1) hm (by omega)
  have d0 : (nI 1).toNatClampNeg = 1 := by decide
  refine ⟨3, ?_⟩
  refine br_f (by decide) ⟨pk_in 0 80 (by omega), br_t (by rw [c0, h1]) ⟨v, br_f (by rw [c]; exact h9) ⟨v', br_t (by rw [c']; exact h9') ?_⟩⟩⟩
  refine dx_lr (r := 0) hm hd (by omega) h2 h1 h12' (nm_r (e' := nI 1) (by decide) ?_)
  refine br_f (by decide) ⟨pk_in 1 80 (by omega), br_t (by rw [d0, h1']) ⟨e1, br_f (by rw [d1, pk_un (by omega)]; exact g9) ⟨e1', br_t (by rw [d1', pk_un (by omega)]; exact g9') ?_⟩⟩⟩
  refine dx_lc (r := 1) (p := 0) hm hd (by omega) (by omega) (by omega) h2' h1' h1 pk_us pk_us pk_us (nm_r (e' := nI 2) (by decide) ?_)
  exact dx_cdX (q := 2) (r := 1) hn hm hne hd (by omega) (by rw [pk_un (by omega), pk_un (by omega), pk_un (by omega), h12]) (by rw [pk_un (by omega), pk_un (by omega), h13]) pk_us pk_us h19 h17 hp 0

theorem dx_115 {post : Int32 → St2 → Prop} {x : Int32} (hn : n < 3) (hm : m < 3) (hp : ∀ u : St2, post x u) : wX_copy_115 post (nI n) (nI m) x f a1 a2 a3 a4 a5 a6 a7 a8 a9 a10 a11 a12 a13 a14 a15 a16 a17 a18 a19 a20 a21 a22 :=
  ⟨vp_in_nI hn (by omega), pk_in (3 * n + m) 9 (by omega) (dx_3 n m), nm_e (hp _)⟩
theorem dx_copyB {post : Int32 → St2 → Prop} {x y : Int32} (h : (¬ x < 0 → ¬ x < 3) ∨ ((∃ n : Nat, n < 3 ∧ x = nI n) ∧ ((¬ y < 0 → ¬ y < 3) ∨ y = x))) (hp : post (-1000000001) (f, a1, a2, a3, a4, a5, a6, a7, a8, a9, a10, a11, a12, a13, a14, a15, a16, a17, a18, a19, a20, a21, a22)) : wpX_copy post (f, a1, a2, a3, a4, a5, a6, a7, a8, a9, a10, a11, a12, a13, a14, a15, a16, a17, a18, a19, a20, a21, a22) x y := by
  unfold wpX_copy
  rcases h with h | ⟨⟨n, hn, rfl⟩, h | rfl⟩
  · exact dx_badStoreN h (br_f (by decide) hp)
  · exact dx_badStore hn (br_t rfl (dx_badStoreN h (br_f (by decide) hp)))
  · exact dx_badStore hn (br_t rfl (dx_badStore hn (br_t rfl (br_t rfl hp))))
/-- nothing was changed: nothing is copied -/
theorem dx_copy0 {post : Int32 → St2 → Prop} (hn : n < 3) (hm : m < 3) (hne : n ≠ m) (h15 : ∀ j, j < 8 → a15 (8 * n + j) = 0) (h16 : a16 (3 * n + m) = 0) (hp : ∀ u : St2, post 0 u) : wpX_copy post (f, a1, a2, a3, a4, a5, a6, a7, a8, a9, a10, a11, a12, a13, a14, a15, a16, a17, a18, a19, a20, a21, a22) (nI n) (nI m) := by
  have c3 : (3 * nI n + nI m).toNatClampNeg = 3 * n + m := pk_cl _ (dx_3 n m) (by omega)
  unfold wpX_copy
  refine dx_badStore hn (br_t rfl (dx_badStore hm (br_t rfl (br_f (fun z => hne ((nI_eq (by omega) (by omega)).mp z)) ⟨pk_in (3 * n + m) 9 (by omega) (dx_3 n m), nm_r (e' := 0) (by rw [c3, h16]) (dx_nc0 hn (fun j hj => by rw [h15 j hj] <;> decide) ⟨1, ?_⟩)⟩))))
  exact br_f (by decide) (br_t rfl (dx_115 hn hm hp))
/-- one document was changed: it is copied -/
theorem dx_copy1 {post : Int32 → St2 → Prop} (hn : n < 3) (hm : m < 3) (hne : n ≠ m) (hd : d < 8) (h15 : ∀ j, j < 8 → j ≠ d → a15 (8 * n + j) = 0) (h15d : a15 (8 * n + d) = nI q) (hq : 0 < q) (hq2 : q < 80) (h16 : a16 (3 * n + m) = 0) (hp : ∀ u : St2, post 1 u)
    (hc : ∀ Q : Int32 → St2 → Prop, (∀ u : St2, (∀ j, j < 8 → dx_a15 u (8 * n + j) = a15 (8 * n + j)) → Q 1 u) → wpX_copyDocument Q (f, a1, a2, a3, a4, a5, a6, a7, a8, a9, a10, a11, a12, a13, a14, a15, a16, a17, a18, a19, a20, a21, a22) (nI n) (nI m) (nI d)) : wpX_copy post (f, a1, a2, a3, a4, a5, a6, a7, a8, a9, a10, a11, a12, a13, a14, a15, a16, a17, a18, a19, a20, a21, a22) (nI n) (nI m) := by
  have c3 : (3 * nI n + nI m).toNatClampNeg = 3 * n + m := pk_cl _ (dx_3 n m) (by omega)
  unfold wpX_copy
  refine dx_badStore hn (br_t rfl (dx_badStore hm (br_t rfl (br_f (fun z => hne ((nI_eq (by omega) (by omega)).mp z)) ⟨pk_in (3 * n + m) 9 (by omega) (dx_3 n m), nm_r (e' := 0) (by rw [c3, h16]) (dx_nc1 hn hd (fun j hj e => by rw [h15 j hj e] <;> decide) (by rw [h15d]; exact nI_nle hq (by omega)) ⟨2, ?_⟩)⟩))))
  refine br_f (by decide) (br_f (dx_nm1 (by omega)) (hc _ ?_))
  intro u hu
  obtain ⟨f', b1, b2, b3, b4, b5, b6, b7, b8, b9, b10, b11, b12, b13, b14, b15, b16, b17, b18, b19, b20, b21, b22⟩ := u
  have hu' : ∀ j, j < 8 → b15 (8 * n + j) = a15 (8 * n + j) := hu
  refine br_f (by decide) ⟨dx_v8 hn hd, nm_r (e' := nI q) (by rw [dx_c8 hn hd, hu' d hd, h15d]) (dx_nc0 hn ?_ (nm_r (e' := 1) (by decide) ?_))⟩
  · intro j hj
    rw [hu' j hj]
    by_cases e : j = d
    · rw [e, h15d]
      exact Int32.le_refl _
    · rw [h15 j hj e]
      exact nI_pos' (by omega)
  · exact br_f (by decide) (br_t rfl (dx_115 hn hm hp))
end
end
section
/-! the law's own checks -/
section
variable {post : Int32 → St0 → Prop} {mc ms kc ks : Nat} {x0 x1 x2 x3 x4 x6 x7 x8 x9 x10 x11 x12 x13 x14 x15 x16 : Int32}
theorem dx_272 {z0 z1 : Int32} (hp : post 1 ()) (e : z1 = z0) (h11 : x11 = if x13 = 0 then x12 else if x15 = 0 then x12 else if x0 = x4 then x12 else if x14 = 0 then 0 else 1) :
    wL_lawOf_272 post mc ms x0 x4 x11 x12 x13 x14 x15 z0 z1 kc ks := by
  refine br_t e (br_c (fun g => br_t ?_ hp) (fun g => br_c (fun g1 => br_t ?_ hp) (fun g1 => br_c (fun g2 => br_t ?_ hp) (fun g2 => br_c (fun g3 => br_t ?_ hp) (fun g3 => br_t ?_ hp)))))
  · rw [h11, if_pos g]
  · rw [h11, if_neg g, if_pos g1]
  · rw [h11, if_neg g, if_neg g1, if_pos g2]
  · rw [h11, if_neg g, if_neg g1, if_neg g2, if_pos g3]
  · rw [h11, if_neg g, if_neg g1, if_neg g2, if_neg g3]
theorem dx_242 {z0 z1 : Int32} (hp : post 1 ()) (e : z1 = z0) (h10 : x10 = if x13 = 0 then x12 else if x14 = 0 then 0 else if x16 = 0 then x2 else 0)
    (h11 : x11 = if x13 = 0 then x12 else if x15 = 0 then x12 else if x0 = x4 then x12 else if x14 = 0 then 0 else 1) :
    wL_lawOf_242 post mc ms x0 x2 x4 x10 x11 x12 x13 x14 x15 x16 z0 z1 kc ks := by
  refine br_t e (br_c (fun g => dx_272 hp ?_ h11) (fun g => br_c (fun g1 => dx_272 hp ?_ h11) (fun g1 => br_c (fun g2 => dx_272 hp ?_ h11) (fun g2 => dx_272 hp ?_ h11))))
  · rw [h10, if_pos g]
  · rw [h10, if_neg g, if_pos g1]
  · rw [h10, if_neg g, if_neg g1, if_pos g2]
  · rw [h10, if_neg g, if_neg g1, if_neg g2]
theorem dx_217 {z0 z1 : Int32} (hp : post 1 ()) (e : z1 = z0) (h9 : x9 = if x14 = 0 then x12 else if x16 = 0 then 0 else 1) (h10 : x10 = if x13 = 0 then x12 else if x14 = 0 then 0 else if x16 = 0 then x2 else 0)
    (h11 : x11 = if x13 = 0 then x12 else if x15 = 0 then x12 else if x0 = x4 then x12 else if x14 = 0 then 0 else 1) :
    wL_lawOf_217 post mc ms x0 x2 x4 x9 x10 x11 x12 x13 x14 x15 x16 z0 z1 kc ks := by
  refine br_t e (br_c (fun g => dx_242 hp ?_ h10 h11) (fun g => br_c (fun g1 => dx_242 hp ?_ h10 h11) (fun g1 => dx_242 hp ?_ h10 h11)))
  · rw [h9, if_pos g]
  · rw [h9, if_neg g, if_pos g1]
  · rw [h9, if_neg g, if_neg g1]
theorem dx_183 {z0 z1 : Int32} (hp : post 1 ()) (e : z1 = z0) (h8 : x8 = if x15 = 0 then x12 else if x14 = 0 then x12 - 2 else if x4 = x0 then x2 else x12 - 2)
    (h9 : x9 = if x14 = 0 then x12 else if x16 = 0 then 0 else 1) (h10 : x10 = if x13 = 0 then x12 else if x14 = 0 then 0 else if x16 = 0 then x2 else 0)
    (h11 : x11 = if x13 = 0 then x12 else if x15 = 0 then x12 else if x0 = x4 then x12 else if x14 = 0 then 0 else 1) :
    wL_lawOf_183 post mc ms x0 x2 x4 x8 x9 x10 x11 x12 x13 x14 x15 x16 z0 z1 kc ks := by
  refine br_t e (br_c (fun g => dx_217 hp ?_ h9 h10 h11) (fun g => br_c (fun g1 => dx_217 hp ?_ h9 h10 h11) (fun g1 => br_c (fun g2 => dx_217 hp ?_ h9 h10 h11) (fun g2 => dx_217 hp ?_ h9 h10 h11))))
  · rw [h8, if_pos g]
  · rw [h8, if_neg g, if_pos g1]
  · rw [h8, if_neg g, if_neg g1, if_pos g2]
  · rw [h8, if_neg g, if_neg g1, if_neg g2]
theorem dx_140 (hp : post 1 ()) (h6 : x6 = if x14 = 0 then x12 else 0) (h7 : x7 = if x14 = 0 then x12 else if x16 = 0 then x12 - 2 else 1)
    (h8 : x8 = if x15 = 0 then x12 else if x14 = 0 then x12 - 2 else if x4 = x0 then x2 else x12 - 2)
    (h9 : x9 = if x14 = 0 then x12 else if x16 = 0 then 0 else 1) (h10 : x10 = if x13 = 0 then x12 else if x14 = 0 then 0 else if x16 = 0 then x2 else 0)
    (h11 : x11 = if x13 = 0 then x12 else if x15 = 0 then x12 else if x0 = x4 then x12 else if x14 = 0 then 0 else 1) :
    wL_lawOf_140 post mc ms x0 x2 x4 x6 x7 x8 x9 x10 x11 x12 x13 x14 x15 x16 kc ks := by
  have A : ∀ z, x6 = z → wL_lawOf_155 post mc ms x0 x2 x4 x7 x8 x9 x10 x11 x12 x13 x14 x15 x16 z x6 kc ks := by
    intro z e
    refine br_t e (br_c (fun g => dx_183 hp ?_ h8 h9 h10 h11) (fun g => br_c (fun g1 => dx_183 hp ?_ h8 h9 h10 h11) (fun g1 => dx_183 hp ?_ h8 h9 h10 h11)))
    · rw [h7, if_pos g]
    · rw [h7, if_neg g, if_pos g1]
    · rw [h7, if_neg g, if_neg g1]
  exact br_c (fun g => A _ (by rw [h6, if_pos g])) (fun g => A _ (by rw [h6, if_neg g]))
theorem dx_124 {o g : Int32} (hg : (x14 = 0 ∨ ¬ x3 = 0) ∧ g = 0 ∨ (¬ x14 = 0 ∧ x3 = 0) ∧ g = 1)
    (H : wL_lawOf_140 post mc ms x0 x2 x4 x6 x7 x8 x9 x10 x11 x12 x13 x14 o g kc ks) : wL_lawOf_124 post mc ms x0 x2 x3 x4 x6 x7 x8 x9 x10 x11 x12 x13 x14 o kc ks := by
  rcases hg with ⟨h | h, rfl⟩ | ⟨⟨h, h'⟩, rfl⟩
  · exact br_t h H
  · exact br_c (fun _ => H) (fun _ => br_f h H)
  · exact br_f h (br_t h' H)
theorem dx_106 {t o : Int32} (ho : (x4 < 0 ∨ 2 < x4) ∧ o = 0 ∨ (¬ x4 < 0 ∧ ¬ 2 < x4) ∧ o = 1)
    (H : wL_lawOf_124 post mc ms x0 x2 x3 x4 x6 x7 x8 x9 x10 x11 x12 x13 t o kc ks) : wL_lawOf_106 post mc ms x0 x2 x3 x4 x6 x7 x8 x9 x10 x11 x12 x13 t kc ks := by
  rcases ho with ⟨h | h, rfl⟩ | ⟨⟨h, h'⟩, rfl⟩
  · exact br_t h H
  · exact br_c (fun _ => H) (fun _ => br_t h H)
  · exact br_f h (br_f h' H)
theorem dx_84 {s t : Int32} (ht : (s = 0 ∨ x1 < 0 ∨ 7 < x1) ∧ t = 0 ∨ (¬ s = 0 ∧ ¬ x1 < 0 ∧ ¬ 7 < x1) ∧ t = 1)
    (H : wL_lawOf_106 post mc ms x0 x2 x3 x4 x6 x7 x8 x9 x10 x11 x12 s t kc ks) : wL_lawOf_84 post mc ms x0 x1 x2 x3 x4 x6 x7 x8 x9 x10 x11 x12 s kc ks := by
  rcases ht with ⟨h | h | h, rfl⟩ | ⟨⟨h, h', h2⟩, rfl⟩
  · exact br_t h H
  · exact br_c (fun _ => H) (fun _ => br_t h H)
  · exact br_c (fun _ => H) (fun _ => br_c (fun _ => H) (fun _ => br_t h H))
  · exact br_f h (br_f h' (br_f h2 H))
theorem dx_tail {s t o g : Int32} (hp : post 1 ()) (hs : (x0 < 0 ∨ 2 < x0) ∧ s = 0 ∨ (¬ x0 < 0 ∧ ¬ 2 < x0) ∧ s = 1)
    (ht : (s = 0 ∨ x1 < 0 ∨ 7 < x1) ∧ t = 0 ∨ (¬ s = 0 ∧ ¬ x1 < 0 ∧ ¬ 7 < x1) ∧ t = 1) (ho : (x4 < 0 ∨ 2 < x4) ∧ o = 0 ∨ (¬ x4 < 0 ∧ ¬ 2 < x4) ∧ o = 1)
    (hg : (t = 0 ∨ ¬ x3 = 0) ∧ g = 0 ∨ (¬ t = 0 ∧ x3 = 0) ∧ g = 1)
    (h6 : x6 = if t = 0 then x12 else 0) (h7 : x7 = if t = 0 then x12 else if g = 0 then x12 - 2 else 1)
    (h8 : x8 = if o = 0 then x12 else if t = 0 then x12 - 2 else if x4 = x0 then x2 else x12 - 2)
    (h9 : x9 = if t = 0 then x12 else if g = 0 then 0 else 1) (h10 : x10 = if s = 0 then x12 else if t = 0 then 0 else if g = 0 then x2 else 0)
    (h11 : x11 = if s = 0 then x12 else if o = 0 then x12 else if x0 = x4 then x12 else if t = 0 then 0 else 1) :
    (x0 < 0 → wL_lawOf_83 post mc ms x0 x1 x2 x3 x4 x6 x7 x8 x9 x10 x11 x12 kc ks) ∧ (¬ x0 < 0 → (2 < x0 → wL_lawOf_83 post mc ms x0 x1 x2 x3 x4 x6 x7 x8 x9 x10 x11 x12 kc ks) ∧ (¬ 2 < x0 → wL_lawOf_84 post mc ms x0 x1 x2 x3 x4 x6 x7 x8 x9 x10 x11 x12 1 kc ks)) := by
  have H : wL_lawOf_84 post mc ms x0 x1 x2 x3 x4 x6 x7 x8 x9 x10 x11 x12 s kc ks := dx_84 ht (dx_106 ho (dx_124 hg (dx_140 hp h6 h7 h8 h9 h10 h11)))
  rcases hs with ⟨h | h, rfl⟩ | ⟨⟨h, h'⟩, rfl⟩
  · exact br_t h H
  · exact br_c (fun _ => H) (fun _ => br_t h H)
  · exact br_f h (br_f h' H)
end
theorem dx_out3 {x : Int32} (h : x < 0 ∨ nI 3 ≤ x) : (¬ x < 0 → ¬ x < 3) ∧ (x < 0 ∨ 2 < x) := by
  have e0 : (0 : Int32).toInt = 0 := by decide
  have e2 : (2 : Int32).toInt = 2 := by decide
  have e3 : (3 : Int32).toInt = 3 := by decide
  have e3' : (nI 3).toInt = 3 := by decide
  simp only [Int32.lt_iff_toInt_lt, Int32.le_iff_toInt_le, e0, e2, e3, e3'] at h ⊢
  omega
theorem dx_out8 {x : Int32} (h : x < 0 ∨ nI 8 ≤ x) : (¬ x < 0 → ¬ x < 8) ∧ (x < 0 ∨ 7 < x) := by
  have e0 : (0 : Int32).toInt = 0 := by decide
  have e2 : (7 : Int32).toInt = 7 := by decide
  have e3 : (8 : Int32).toInt = 8 := by decide
  have e3' : (nI 8).toInt = 8 := by decide
  simp only [Int32.lt_iff_toInt_lt, Int32.le_iff_toInt_le, e0, e2, e3, e3'] at h ⊢
  omega
theorem dx_in3 {n : Nat} (h : n < 3) : ¬ nI n < 0 ∧ ¬ 2 < nI n := ⟨nI_pos (by omega), nI_nlt (a := 2) (by omega) (by omega)⟩
theorem dx_in8 {n : Nat} (h : n < 8) : ¬ nI n < 0 ∧ ¬ 7 < nI n := ⟨nI_pos (by omega), nI_nlt (a := 7) (by omega) (by omega)⟩
section
variable {f : Int32} {a1 a2 a3 a4 a5 a6 a7 a8 a9 a10 a11 a12 a13 a14 a15 a16 a17 a18 a19 a20 a21 a22 : Nat → Int32}
theorem dx_editB {post : Int32 → St2 → Prop} {x y z : Int32} (h : (¬ x < 0 → ¬ x < 3) ∨ ((∃ n : Nat, n < 3 ∧ x = nI n) ∧ (¬ y < 0 → ¬ y < 8))) (hp : post (-1000000001) (f, a1, a2, a3, a4, a5, a6, a7, a8, a9, a10, a11, a12, a13, a14, a15, a16, a17, a18, a19, a20, a21, a22)) : wpX_edit post (f, a1, a2, a3, a4, a5, a6, a7, a8, a9, a10, a11, a12, a13, a14, a15, a16, a17, a18, a19, a20, a21, a22) x y z := by
  unfold wpX_edit
  rcases h with h | ⟨⟨n, hn, rfl⟩, h⟩
  · exact dx_badStoreN h (br_f (by decide) hp)
  · exact dx_badStore hn (br_t rfl (dx_badDocN h (br_f (by decide) hp)))
theorem dx_delB {post : Int32 → St2 → Prop} {x y z : Int32} (h : (¬ x < 0 → ¬ x < 3) ∨ ((∃ n : Nat, n < 3 ∧ x = nI n) ∧ (¬ y < 0 → ¬ y < 8))) (hp : post (-1000000001) (f, a1, a2, a3, a4, a5, a6, a7, a8, a9, a10, a11, a12, a13, a14, a15, a16, a17, a18, a19, a20, a21, a22)) : wpX_delete post (f, a1, a2, a3, a4, a5, a6, a7, a8, a9, a10, a11, a12, a13, a14, a15, a16, a17, a18, a19, a20, a21, a22) x y z := by
  unfold wpX_delete
  rcases h with h | ⟨⟨n, hn, rfl⟩, h⟩
  · exact dx_badStoreN h (br_f (by decide) hp)
  · exact dx_badStore hn (br_t rfl (dx_badDocN h (br_f (by decide) hp)))
end
theorem dx_init {post : St2 → Prop} (hp : ∀ b : Nat → Int32, (∀ j, j < 8 → b j = -1) → post (0, fun _ => 0, fun _ => 0, fun _ => 0, fun _ => 0, fun _ => 0, fun _ => 0, fun _ => 0, b, fun _ => 0, fun _ => 0, fun _ => 0, fun _ => 0, fun _ => 0, fun _ => 0, fun _ => 0, fun _ => 0, fun _ => 0, fun _ => 0, fun _ => 0, fun _ => 0, fun _ => 0, fun _ => 0)) : wpX_init post 22 3503 0 := by
  refine ⟨by decide, by decide, by decide, by decide, by decide, by decide, by decide, by decide, by decide, by decide, by decide, by decide, by decide, by decide, by decide, by decide, by decide, by decide, by decide, by decide, by decide, by decide, by decide, by decide, by decide, by decide, by decide, by decide, by decide, by decide, by decide, by decide, by decide, by decide, by decide, by decide, by decide, by decide, by decide, by decide, by decide, by decide, by decide, by decide, ?_⟩
  exact pk_loop (fun fu i s => wX_init_184 post 22 3503 22 3503 0 fu (nI i) (fun _ => 0) (fun _ => 0) (fun _ => 0) (fun _ => 0) (fun _ => 0) (fun _ => 0) (fun _ => 0) s (fun _ => 0) (fun _ => 0) (fun _ => 0) (fun _ => 0) (fun _ => 0) (fun _ => 0) (fun _ => 0) (fun _ => 0) (fun _ => 0) (fun _ => 0) (fun _ => 0) (fun _ => 0) (fun _ => 0) (fun _ => 0)) (fun i s => ∀ j, j < i → s j = -1) 8 0 (fun _ => 0) (by omega) (fun j hj => absurd hj (by omega))
    (fun fu s h => pk_le 8 8 (fun _ => hp s h) (fun z => absurd z (by omega)))
    (fun fu i s hi h hw => pk_le 8 i (fun z => absurd z (by omega)) (fun _ => ⟨pk_in i 8 hi, nm_r (e' := upd s i (-1)) (by rw [nI_clamp (by omega)]) (nm_r (nI_1 i) (hw _ (fun j hj => by
      by_cases e : j = i
      · rw [e, pk_us]
      · rw [pk_un e]
        exact h j (by omega))))⟩))
end
section
theorem dx_cell {post : Int32 → Prop} {L : Nat} {xs : Nat → Int32} {u : St0} (i : Nat) (hi : i < 5) (hL : L ≤ 5) (hp : ∀ v, post v) : wpL_cellAt post L xs u (nI i) :=
  pk_le L i (fun _ => hp _) (fun z => ⟨pk_in i L z, hp _⟩)
theorem dx_law {post : Int32 → St0 → Prop} (hp : post 1 ()) (p0 p1 p2 p3 p4 : Int32) : wpL_lawOf post 23 3526 () p0 p1 p2 p3 p4 := by
  refine ⟨by decide, by decide, 22, 3503, by decide, by decide, dx_init (fun b hb => ?_)⟩
  have A : (p0 < 0 ∨ nI 3 ≤ p0) ∨ ∃ n : Nat, n < 3 ∧ p0 = nI n := by
    rcases pk_ix p0 (n := 3) (by omega) with h | h | h
    · exact Or.inl (Or.inl h)
    · exact Or.inl (Or.inr h)
    · exact Or.inr h
  have B : (p1 < 0 ∨ nI 8 ≤ p1) ∨ ∃ d : Nat, d < 8 ∧ p1 = nI d := by
    rcases pk_ix p1 (n := 8) (by omega) with h | h | h
    · exact Or.inl (Or.inl h)
    · exact Or.inl (Or.inr h)
    · exact Or.inr h
  have C : (p4 < 0 ∨ nI 3 ≤ p4) ∨ ∃ m : Nat, m < 3 ∧ p4 = nI m := by
    rcases pk_ix p4 (n := 3) (by omega) with h | h | h
    · exact Or.inl (Or.inl h)
    · exact Or.inl (Or.inr h)
    · exact Or.inr h
  have nz : ¬ (1 : Int32) = 0 := by decide
  rcases A with hA | ⟨n, hn, rfl⟩
  · obtain ⟨hA1, hA2⟩ := dx_out3 hA
    refine dx_editB (Or.inl hA1) ?_
    refine dx_delB (Or.inl hA1) ?_
    rcases C with hC | ⟨m, hm, rfl⟩
    · obtain ⟨hC1, hC2⟩ := dx_out3 hC
      refine dx_bodyB hC1 (dx_winB (Or.inl hA1) (dx_totB hA1 (dx_copyB (Or.inl hA1) ?_)))
      exact dx_tail (s := 0) (t := 0) (o := 0) (g := 0) hp (Or.inl ⟨hA2, rfl⟩) (Or.inl ⟨Or.inl rfl, rfl⟩) (Or.inl ⟨hC2, rfl⟩) (Or.inl ⟨Or.inl rfl, rfl⟩)
        (by rw [if_pos rfl]) (by rw [if_pos rfl]) (by rw [if_pos rfl]) (by rw [if_pos rfl]) (by rw [if_pos rfl]) (by rw [if_pos rfl])
    · refine dx_bodyE hm (dx_winB (Or.inl hA1) (dx_totB hA1 (dx_copyB (Or.inl hA1) ?_)))
      exact dx_tail (s := 0) (t := 0) (o := 1) (g := 0) hp (Or.inl ⟨hA2, rfl⟩) (Or.inl ⟨Or.inl rfl, rfl⟩) (Or.inr ⟨dx_in3 hm, rfl⟩) (Or.inl ⟨Or.inl rfl, rfl⟩)
        (by rw [if_pos rfl]) (by rw [if_pos rfl]) (by rw [if_neg nz, if_pos rfl] <;> rfl) (by rw [if_pos rfl]) (by rw [if_pos rfl]) (by rw [if_pos rfl])
  · have hN : ∃ k : Nat, k < 3 ∧ nI n = nI k := ⟨n, hn, rfl⟩
    rcases B with hB | ⟨d, hd, rfl⟩
    · obtain ⟨hB1, hB2⟩ := dx_out8 hB
      refine dx_editB (Or.inr ⟨hN, hB1⟩) ?_
      refine dx_delB (Or.inr ⟨hN, hB1⟩) ?_
      rcases C with hC | ⟨m, hm, rfl⟩
      · obtain ⟨hC1, hC2⟩ := dx_out3 hC
        refine dx_bodyB hC1 (dx_winB (Or.inr ⟨hN, hB1⟩) (dx_tot0 hn rfl (dx_copyB (Or.inr ⟨hN, Or.inl hC1⟩) ?_)))
        exact dx_tail (s := 1) (t := 0) (o := 0) (g := 0) hp (Or.inr ⟨dx_in3 hn, rfl⟩) (Or.inl ⟨Or.inr hB2, rfl⟩) (Or.inl ⟨hC2, rfl⟩) (Or.inl ⟨Or.inl rfl, rfl⟩)
          (by rw [if_pos rfl]) (by rw [if_pos rfl]) (by rw [if_pos rfl]) (by rw [if_pos rfl]) (by rw [if_neg nz, if_pos rfl]) (by rw [if_neg nz, if_pos rfl])
      · by_cases e : n = m
        · subst e
          refine dx_bodyE hm (dx_winB (Or.inr ⟨hN, hB1⟩) (dx_tot0 hn rfl (dx_copyB (Or.inr ⟨hN, Or.inr rfl⟩) ?_)))
          exact dx_tail (s := 1) (t := 0) (o := 1) (g := 0) hp (Or.inr ⟨dx_in3 hn, rfl⟩) (Or.inl ⟨Or.inr hB2, rfl⟩) (Or.inr ⟨dx_in3 hm, rfl⟩) (Or.inl ⟨Or.inl rfl, rfl⟩)
            (by rw [if_pos rfl]) (by rw [if_pos rfl]) (by rw [if_neg nz, if_pos rfl] <;> rfl) (by rw [if_pos rfl]) (by rw [if_neg nz, if_pos rfl]) (by rw [if_neg nz, if_neg nz, if_pos rfl])
        · have e' : ¬ nI n = nI m := fun z => e ((nI_eq (by omega) (by omega)).mp z)
          refine dx_bodyE hm (dx_winB (Or.inr ⟨hN, hB1⟩) (dx_tot0 hn rfl (dx_copy0 hn hm e (fun j hj => rfl) rfl ?_)))
          intro u
          obtain ⟨f', b1, b2, b3, b4, b5, b6, b7, b8, b9, b10, b11, b12, b13, b14, b15, b16, b17, b18, b19, b20, b21, b22⟩ := u
          exact dx_tail (s := 1) (t := 0) (o := 1) (g := 0) hp (Or.inr ⟨dx_in3 hn, rfl⟩) (Or.inl ⟨Or.inr hB2, rfl⟩) (Or.inr ⟨dx_in3 hm, rfl⟩) (Or.inl ⟨Or.inl rfl, rfl⟩)
            (by rw [if_pos rfl]) (by rw [if_pos rfl]) (by rw [if_neg nz, if_pos rfl] <;> rfl) (by rw [if_pos rfl]) (by rw [if_neg nz, if_pos rfl]) (by rw [if_neg nz, if_neg nz, if_neg e', if_pos rfl])
    · refine dx_edit hn hd (hb d hd) rfl rfl rfl rfl rfl ?_
      have hS := dx_in3 hn
      have hT := dx_in8 hd
      by_cases hk : p3 = 0
      · subst hk
        refine dx_del0 hn hd pk_us pk_us pk_us pk_us (by rw [pk_un (by omega)]) pk_us pk_us pk_us pk_us pk_us pk_us pk_us ?_
        rcases C with hC | ⟨m, hm, rfl⟩
        · obtain ⟨hC1, hC2⟩ := dx_out3 hC
          refine dx_bodyB hC1 (dx_win1 (r := 1) hn hd (by omega) pk_us pk_us (dx_tot0 hn pk_us (dx_copyB (Or.inr ⟨hN, Or.inl hC1⟩) ?_)))
          exact dx_tail (s := 1) (t := 1) (o := 0) (g := 1) hp (Or.inr ⟨hS, rfl⟩) (Or.inr ⟨⟨nz, hT⟩, rfl⟩) (Or.inl ⟨hC2, rfl⟩) (Or.inr ⟨⟨nz, rfl⟩, rfl⟩)
            (by rw [if_neg nz]) (by rw [if_neg nz, if_neg nz]) (by rw [if_pos rfl]) (by rw [if_neg nz, if_neg nz] <;> rfl) (by rw [if_neg nz, if_neg nz, if_neg nz]) (by rw [if_neg nz, if_pos rfl])
        · by_cases e : n = m
          · subst e
            refine dx_bodyY (q := 2) (x := p2) hm (by omega) (by omega) (by rw [pk_un (by omega), pk_us] <;> decide) (by rw [pk_un (by omega), pk_un (by omega), pk_us] <;> decide) (by rw [pk_un (by omega), pk_us]) ?_
            refine dx_win1 (r := 1) hn hd (by omega) pk_us pk_us (dx_tot0 hn pk_us (dx_copyB (Or.inr ⟨hN, Or.inr rfl⟩) ?_))
            exact dx_tail (s := 1) (t := 1) (o := 1) (g := 1) hp (Or.inr ⟨hS, rfl⟩) (Or.inr ⟨⟨nz, hT⟩, rfl⟩) (Or.inr ⟨dx_in3 hm, rfl⟩) (Or.inr ⟨⟨nz, rfl⟩, rfl⟩)
              (by rw [if_neg nz]) (by rw [if_neg nz, if_neg nz]) (by rw [if_neg nz, if_neg nz, if_pos rfl]) (by rw [if_neg nz, if_neg nz] <;> rfl) (by rw [if_neg nz, if_neg nz, if_neg nz]) (by rw [if_neg nz, if_neg nz, if_pos rfl])
          · have e' : ¬ nI n = nI m := fun z => e ((nI_eq (by omega) (by omega)).mp z)
            have e2 : ¬ nI m = nI n := fun z => e' z.symm
            refine dx_bodyN (q := 2) hm (by omega) (by omega) (by rw [pk_un (by omega), pk_un (by omega)]) ?_
            refine dx_win1 (r := 1) hn hd (by omega) pk_us pk_us (dx_tot0 hn pk_us ?_)
            refine dx_copy1 (d := d) (q := 2) hn hm e hd (fun j hj z => by rw [pk_un (by omega), pk_un (by omega)]) pk_us (by omega) (by omega) rfl ?_ ?_
            · intro u
              obtain ⟨f', b1, b2, b3, b4, b5, b6, b7, b8, b9, b10, b11, b12, b13, b14, b15, b16, b17, b18, b19, b20, b21, b22⟩ := u
              exact dx_tail (s := 1) (t := 1) (o := 1) (g := 1) hp (Or.inr ⟨hS, rfl⟩) (Or.inr ⟨⟨nz, hT⟩, rfl⟩) (Or.inr ⟨dx_in3 hm, rfl⟩) (Or.inr ⟨⟨nz, rfl⟩, rfl⟩)
                (by rw [if_neg nz]) (by rw [if_neg nz, if_neg nz]) (by rw [if_neg nz, if_neg nz, if_neg e2] <;> rfl) (by rw [if_neg nz, if_neg nz] <;> rfl) (by rw [if_neg nz, if_neg nz, if_neg nz]) (by rw [if_neg nz, if_neg nz, if_neg e', if_neg nz])
            · intro Q hQ
              refine dx_cd2 hn hm e hd (by rw [pk_un (by omega), pk_us]) pk_us (by rw [pk_un (by omega), pk_us]) pk_us (by rw [pk_un (by omega), pk_us] <;> decide) (by rw [pk_un (by omega), pk_un (by omega)]) (by rw [pk_us] <;> decide) (by rw [pk_un (by omega), pk_un (by omega)]) pk_us ?_ pk_us ?_ ?_ hQ
              · rw [pk_un (by omega), pk_un (by omega), pk_un (by omega)]
              · rw [pk_un (by omega), pk_un (by omega)]
              · rw [pk_un (by omega), pk_un (by omega)]
      · refine dx_delN hn hd pk_us hk ?_
        rcases C with hC | ⟨m, hm, rfl⟩
        · obtain ⟨hC1, hC2⟩ := dx_out3 hC
          refine dx_bodyB hC1 (dx_win1 (r := 0) hn hd (by omega) pk_us pk_us (dx_tot1 (x := p2) hn hd pk_us pk_us pk_us (dx_copyB (Or.inr ⟨hN, Or.inl hC1⟩) ?_)))
          exact dx_tail (s := 1) (t := 1) (o := 0) (g := 0) hp (Or.inr ⟨hS, rfl⟩) (Or.inr ⟨⟨nz, hT⟩, rfl⟩) (Or.inl ⟨hC2, rfl⟩) (Or.inl ⟨Or.inr hk, rfl⟩)
            (by rw [if_neg nz]) (by rw [if_neg nz, if_pos rfl] <;> rfl) (by rw [if_pos rfl]) (by rw [if_neg nz, if_pos rfl] <;> rfl) (by rw [if_neg nz, if_neg nz, if_pos rfl]) (by rw [if_neg nz, if_pos rfl])
        · by_cases e : n = m
          · subst e
            refine dx_bodyY (q := 1) (x := p2) hm (by omega) (by omega) (by rw [pk_us] <;> decide) (by rw [pk_us] <;> decide) pk_us ?_
            refine dx_win1 (r := 0) hn hd (by omega) pk_us pk_us (dx_tot1 (x := p2) hn hd pk_us pk_us pk_us (dx_copyB (Or.inr ⟨hN, Or.inr rfl⟩) ?_))
            exact dx_tail (s := 1) (t := 1) (o := 1) (g := 0) hp (Or.inr ⟨hS, rfl⟩) (Or.inr ⟨⟨nz, hT⟩, rfl⟩) (Or.inr ⟨dx_in3 hm, rfl⟩) (Or.inl ⟨Or.inr hk, rfl⟩)
              (by rw [if_neg nz]) (by rw [if_neg nz, if_pos rfl] <;> rfl) (by rw [if_neg nz, if_neg nz, if_pos rfl]) (by rw [if_neg nz, if_pos rfl] <;> rfl) (by rw [if_neg nz, if_neg nz, if_pos rfl]) (by rw [if_neg nz, if_neg nz, if_pos rfl])
          · have e' : ¬ nI n = nI m := fun z => e ((nI_eq (by omega) (by omega)).mp z)
            have e2 : ¬ nI m = nI n := fun z => e' z.symm
            refine dx_bodyN (q := 1) hm (by omega) (by omega) (by rw [pk_un (by omega)]) ?_
            refine dx_win1 (r := 0) hn hd (by omega) pk_us pk_us (dx_tot1 (x := p2) hn hd pk_us pk_us pk_us ?_)
            refine dx_copy1 (d := d) (q := 1) hn hm e hd (fun j hj z => by rw [pk_un (by omega)]) pk_us (by omega) (by omega) rfl ?_ ?_
            · intro u
              obtain ⟨f', b1, b2, b3, b4, b5, b6, b7, b8, b9, b10, b11, b12, b13, b14, b15, b16, b17, b18, b19, b20, b21, b22⟩ := u
              exact dx_tail (s := 1) (t := 1) (o := 1) (g := 0) hp (Or.inr ⟨hS, rfl⟩) (Or.inr ⟨⟨nz, hT⟩, rfl⟩) (Or.inr ⟨dx_in3 hm, rfl⟩) (Or.inl ⟨Or.inr hk, rfl⟩)
                (by rw [if_neg nz]) (by rw [if_neg nz, if_pos rfl] <;> rfl) (by rw [if_neg nz, if_neg nz, if_neg e2] <;> rfl) (by rw [if_neg nz, if_pos rfl] <;> rfl) (by rw [if_neg nz, if_neg nz, if_pos rfl]) (by rw [if_neg nz, if_neg nz, if_neg e', if_neg nz])
            · intro Q hQ
              refine dx_cd1 hn hm e hd pk_us pk_us (by rw [pk_us] <;> decide) (by rw [pk_un (by omega)]) pk_us ?_ pk_us ?_ ?_ hQ
              · rw [pk_un (by omega)]
              · rw [pk_un (by omega)]
              · rw [pk_un (by omega)]
end
section
theorem i_vc (xs : Nat → Int32) (L : Nat) (hL : L ≤ 5) : wpL_law (fun r => r = 1) L xs :=
  dx_cell 0 (by omega) hL (fun v0 => dx_cell 1 (by omega) hL (fun v1 => dx_cell 2 (by omega) hL (fun v2 => dx_cell 3 (by omega) hL (fun v3 => dx_cell 4 (by omega) hL (fun v4 =>
    ⟨23, 3526, by decide, by decide, dx_law (post := fun r _ => r = 1) rfl v0 v1 v2 v3 v4⟩)))))
end
