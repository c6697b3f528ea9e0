section
section
variable {q0 q1 hd pn : Int32} {ex : Int64} {pc lv : Int32} {a1 a2 a3 a4 a5 a6 a7 a8 a9 a10 a11 a12 a13 a14 a15 a16 a17 a18 a19 a20 a21 a22 : Nat → Int32}
/-- one round of the constructor's loop -/
theorem tk_init1 {post : St2 → Prop} {mc ms kc ks n : Nat} {x y : Int32} (h : ¬ 6 ≤ x) (hi : vp_in x 6) (hy : x + 1 = y)
    (H : ∀ a7 : Nat → Int32, wX_init_199 post mc ms kc ks q0 q1 hd pn ex pc lv n y a1 a2 a3 a4 a5 a6 a7 a8 a9 a10 a11 a12 a13 a14 a15 a16 a17 a18 a19 a20 a21 a22) :
    ∀ a7 : Nat → Int32, wX_init_199 post mc ms kc ks q0 q1 hd pn ex pc lv (n + 1) x a1 a2 a3 a4 a5 a6 a7 a8 a9 a10 a11 a12 a13 a14 a15 a16 a17 a18 a19 a20 a21 a22 :=
  fun _ => br_f h ⟨hi, nm_e (nm_r hy (H _))⟩
theorem tk_init {post : St2 → Prop} {mc ms : Nat} (hc : 22 ≤ mc) (hs : 724 ≤ ms)
    (H : ∀ a7 : Nat → Int32, post (-1, -1, hd, -1, ex, pc, 2, fun _ => 0, fun _ => 0, fun _ => 0, fun _ => 0, fun _ => 0, fun _ => 0, a7, fun _ => 0, fun _ => 0, fun _ => 0, fun _ => 0, fun _ => 0, fun _ => 0, fun _ => 0, fun _ => 0, fun _ => 0, fun _ => 0, fun _ => 0, fun _ => 0, fun _ => 0, fun _ => 0, fun _ => 0)) :
    wpX_init post mc ms (q0, q1, hd, pn, ex, pc, lv) := by
  refine ⟨by omega, by omega, by omega, by omega, by omega, by omega, by omega, by omega, by omega, by omega, by omega, by omega, by omega, by omega, by omega, by omega, by omega, by omega, by omega, by omega, by omega, by omega, by omega, by omega, by omega, by omega, by omega, by omega, by omega, by omega, by omega, by omega, by omega, by omega, by omega, by omega, by omega, by omega, by omega, by omega, by omega, by omega, by omega, by omega, 7, ?_⟩
  refine tk_init1 (n := 6) (y := 1) (by decide) (pk_in 0 6 (by decide)) (by decide) ?_ _
  refine tk_init1 (n := 5) (y := 2) (by decide) (pk_in 1 6 (by decide)) (by decide) ?_
  refine tk_init1 (n := 4) (y := 3) (by decide) (pk_in 2 6 (by decide)) (by decide) ?_
  refine tk_init1 (n := 3) (y := 4) (by decide) (pk_in 3 6 (by decide)) (by decide) ?_
  refine tk_init1 (n := 2) (y := 5) (by decide) (pk_in 4 6 (by decide)) (by decide) ?_
  refine tk_init1 (n := 1) (y := 6) (by decide) (pk_in 5 6 (by decide)) (by decide) ?_
  exact fun a7 => br_t (by decide) (H a7)
theorem tk_code {post : Int32 → St2 → Prop} {s : Nat} {i w n o a b : Int32} (hi : i = nI s) (hs : s < 64) (h1 : ¬ w < 0) (h2 : ¬ 511 < w) (h3 : w &&& 31 ≤ 24)
    (ho : (w &&& 31).toInt8.toInt32 = o) (ha : ((w >>> ((5 : Int32) &&& 31)) &&& 3).toInt8.toInt32 = a) (hb : ((w >>> ((7 : Int32) &&& 31)) &&& 3).toInt8.toInt32 = b)
    (H : post 1 (q0, q1, hd, pn, ex, pc, lv, upd a1 s o, upd a2 s a, upd a3 s b, upd a4 s n, a5, a6, a7, a8, a9, a10, a11, a12, a13, a14, a15, a16, a17, a18, a19, a20, a21, a22)) : wpX_code post (q0, q1, hd, pn, ex, pc, lv, a1, a2, a3, a4, a5, a6, a7, a8, a9, a10, a11, a12, a13, a14, a15, a16, a17, a18, a19, a20, a21, a22) i w n := by
  subst hi
  have c : (nI s).toNatClampNeg = s := nI_clamp (by omega)
  have v : vp_in (nI s) 64 := vp_in_nI hs (by decide)
  exact br_f (nI_pos (by omega)) (br_f (nI_nlt (a := 63) (b := s) (by omega) (by decide)) (br_f h1 (br_f h2 (br_t h3
    ⟨v, nm_r (by rw [c, ho]) ⟨v, nm_r (by rw [c, ha]) ⟨v, nm_r (by rw [c, hb]) ⟨v, nm_r (by rw [c]) H⟩⟩⟩⟩))))
theorem tk_free0 {post : Int32 → Prop} (h : a5 0 = 0) (H : post 0) : wpX_freeProcess post (q0, q1, hd, pn, ex, pc, lv, a1, a2, a3, a4, a5, a6, a7, a8, a9, a10, a11, a12, a13, a14, a15, a16, a17, a18, a19, a20, a21, a22) :=
  ⟨1, br_f (by decide) ⟨pk_in 0 6 (by decide), br_t h H⟩⟩
theorem tk_enq {post : St2 → Prop} (h : q1 < 0) (H : post (0, 0, hd, pn, ex, pc, lv, a1, a2, a3, a4, a5, a6, a7, a8, a9, upd a10 0 (-1), a11, a12, a13, a14, a15, a16, a17, a18, a19, a20, a21, a22)) : wpX_enqueue post (q0, q1, hd, pn, ex, pc, lv, a1, a2, a3, a4, a5, a6, a7, a8, a9, a10, a11, a12, a13, a14, a15, a16, a17, a18, a19, a20, a21, a22) 0 :=
  ⟨pk_in 0 6 (by decide), nm_e (br_t h H)⟩
theorem tk_spawn1 {post : Int32 → St2 → Prop} {x2 x y : Int32} {n : Nat} (h : ¬ (4 * (0 : Int32)) + 4 ≤ x) (hi : vp_in x 24) (hy : x + 1 = y)
    (H : wX_spawn_32 post x2 0 q0 q1 hd pn ex pc lv n y a1 a2 a3 a4 a5 a6 a7 (upd a8 x.toNatClampNeg 0) (upd a9 x.toNatClampNeg 0) a10 a11 a12 a13 a14 a15 a16 a17 a18 a19 a20 a21 a22) : wX_spawn_32 post x2 0 q0 q1 hd pn ex pc lv (n + 1) x a1 a2 a3 a4 a5 a6 a7 a8 a9 a10 a11 a12 a13 a14 a15 a16 a17 a18 a19 a20 a21 a22 :=
  br_f h ⟨hi, nm_e ⟨hi, nm_e (nm_r hy H)⟩⟩
theorem tk_spawn {post : Int32 → St2 → Prop} {sp x : Int32} (h5 : a5 0 = 0) (hq : q1 < 0)
    (H : ∀ a7 a8 a9 : Nat → Int32, a8 0 = x → a9 0 = 0 → a9 1 = 0 → post 0 (0, 0, hd, pn, ex, pc, lv, a1, a2, a3, a4, upd a5 0 1, upd a6 0 sp, a7, a8, a9, upd a10 0 (-1), a11, a12, a13, a14, a15, a16, a17, a18, a19, a20, a21, a22)) : wpX_spawn post (q0, q1, hd, pn, ex, pc, lv, a1, a2, a3, a4, a5, a6, a7, a8, a9, a10, a11, a12, a13, a14, a15, a16, a17, a18, a19, a20, a21, a22) sp x := by
  refine tk_free0 h5 (br_t (by decide) ⟨pk_in 0 6 (by decide), nm_e ⟨pk_in 0 6 (by decide), nm_e (nm_r (e' := 0) (by decide) ⟨5, ?_⟩)⟩⟩)
  refine tk_spawn1 (y := 1) (by decide) (pk_in 0 24 (by decide)) (by decide) ?_
  refine tk_spawn1 (y := 2) (by decide) (pk_in 1 24 (by decide)) (by decide) ?_
  refine tk_spawn1 (y := 3) (by decide) (pk_in 2 24 (by decide)) (by decide) ?_
  refine tk_spawn1 (y := 4) (by decide) (pk_in 3 24 (by decide)) (by decide) ?_
  exact br_t (by decide) ⟨pk_in 0 24 (by decide), nm_e ⟨pk_in 0 6 (by decide), nm_e (tk_enq hq (H _ _ _ (by rfl) (by rfl) (by rfl)))⟩⟩
theorem tk_deq {post : Int32 → St2 → Prop} (h10 : a10 0 = -1) (H : post 0 (-1, -1, hd, pn, ex, pc, lv, a1, a2, a3, a4, a5, a6, a7, a8, a9, a10, a11, a12, a13, a14, a15, a16, a17, a18, a19, a20, a21, a22)) : wpX_dequeue post (0, q1, hd, pn, ex, pc, lv, a1, a2, a3, a4, a5, a6, a7, a8, a9, a10, a11, a12, a13, a14, a15, a16, a17, a18, a19, a20, a21, a22) :=
  br_t (by decide) ⟨pk_in 0 6 (by decide), nm_r h10 (br_f (by decide) H)⟩
theorem tk_endAt0 {post : Int32 → Prop} {p v : Int32} (hp : p = 0) (hv : a9 0 = v) (H : post v) : wpX_endAt post (q0, q1, hd, pn, ex, pc, lv, a1, a2, a3, a4, a5, a6, a7, a8, a9, a10, a11, a12, a13, a14, a15, a16, a17, a18, a19, a20, a21, a22) 0 p := by
  subst hp; subst hv
  exact br_f (by decide) (br_t (by decide) ⟨pk_in 0 24 (by decide), H⟩)
theorem tk_endAt1 {post : Int32 → Prop} {p v : Int32} (hp : p = 1) (hv : a9 1 = v) (H : post v) : wpX_endAt post (q0, q1, hd, pn, ex, pc, lv, a1, a2, a3, a4, a5, a6, a7, a8, a9, a10, a11, a12, a13, a14, a15, a16, a17, a18, a19, a20, a21, a22) 0 p := by
  subst hp; subst hv
  exact br_f (by decide) (br_t (by decide) ⟨pk_in 1 24 (by decide), H⟩)
theorem tk_isR1 {post : Int32 → Prop} (H : post 1) : wpX_isReading post (q0, q1, hd, pn, ex, pc, lv, a1, a2, a3, a4, a5, a6, a7, a8, a9, a10, a11, a12, a13, a14, a15, a16, a17, a18, a19, a20, a21, a22) 1 := br_f (by decide) H
theorem tk_isR0 {post : Int32 → Prop} (H : post 0) : wpX_isReading post (q0, q1, hd, pn, ex, pc, lv, a1, a2, a3, a4, a5, a6, a7, a8, a9, a10, a11, a12, a13, a14, a15, a16, a17, a18, a19, a20, a21, a22) 2 := br_t (by decide) H
theorem tk_pof {post : Int32 → Prop} {p : Int32} (hp : (p - 1) / 2 = 0) (H : post 0) : wpX_pipeOf post (q0, q1, hd, pn, ex, pc, lv, a1, a2, a3, a4, a5, a6, a7, a8, a9, a10, a11, a12, a13, a14, a15, a16, a17, a18, a19, a20, a21, a22) p := ⟨by decide, ek_v (P := post) hp H⟩
theorem tk_ed0 {post : Int32 → Prop} (h : a9 0 = 0) (H : post 0) : wpX_emptyDescriptor post (q0, q1, hd, pn, ex, pc, lv, a1, a2, a3, a4, a5, a6, a7, a8, a9, a10, a11, a12, a13, a14, a15, a16, a17, a18, a19, a20, a21, a22) 0 0 :=
  ⟨1, br_f (by decide) ⟨pk_in 0 24 (by decide), br_t h H⟩⟩
theorem tk_ed1 {post : Int32 → Prop} (h : a9 1 = 0) (H : post 1) : wpX_emptyDescriptor post (q0, q1, hd, pn, ex, pc, lv, a1, a2, a3, a4, a5, a6, a7, a8, a9, a10, a11, a12, a13, a14, a15, a16, a17, a18, a19, a20, a21, a22) 0 1 :=
  ⟨1, br_f (by decide) ⟨pk_in 1 24 (by decide), br_t h H⟩⟩
theorem tk_fp0 {post : Int32 → Prop} (h14 : a14 0 = 0) (h15 : a15 0 = 0) (H : post 0) : wpX_freePipe post (q0, q1, hd, pn, ex, pc, lv, a1, a2, a3, a4, a5, a6, a7, a8, a9, a10, a11, a12, a13, a14, a15, a16, a17, a18, a19, a20, a21, a22) := by
  have e : a14 0 + a15 0 ≤ 0 := by rw [h14, h15]; decide
  exact ⟨1, br_f (by decide) ⟨pk_in 0 3 (by decide), pk_in 0 3 (by decide), br_t e (br_t rfl H)⟩⟩
theorem tk_mk {post : St2 → Prop} {p1 p2 : Int32} (hp1 : p1 = 1) (hp2 : p2 = 2) (h0 : a9 0 = 0) (h1 : a9 1 = 0) (h14 : a14 0 = 0) (h15 : a15 0 = 0)
    (H : post (q0, q1, hd, pn, ex, pc, lv, a1, a2, a3, a4, a5, a6, a7, upd (upd a8 1 0) 2 1, upd (upd a9 0 1) 1 2, a10, upd a11 0 0, upd a12 0 0, a13, upd a14 0 1, upd a15 0 1, a16, a17, a18, a19, a20, a21, a22)) : wpX_makePipe post (q0, q1, hd, pn, ex, pc, lv, a1, a2, a3, a4, a5, a6, a7, a8, a9, a10, a11, a12, a13, a14, a15, a16, a17, a18, a19, a20, a21, a22) 0 p1 p2 := by
  subst hp1; subst hp2
  refine tk_ed0 h0 (br_t (by decide) (tk_ed1 h1 ?_))
  exact tk_fp0 h14 h15 (br_f (by decide) (br_t (by decide) ⟨pk_in 0 24 (by decide), nm_e ⟨pk_in 1 24 (by decide), nm_e ⟨pk_in 0 3 (by decide), nm_e ⟨pk_in 0 3 (by decide), nm_e ⟨pk_in 0 3 (by decide), nm_e ⟨pk_in 0 3 (by decide), nm_e ⟨pk_in 1 24 (by decide), nm_e ⟨pk_in 2 24 (by decide), nm_e H⟩⟩⟩⟩⟩⟩⟩⟩))
theorem tk_wp {post : Int32 → St2 → Prop} {x p1 p2 : Int32} (hp1 : p1 = 2) (hp2 : p2 = 0) (h14 : a14 0 = 1) (h11 : a11 0 = 0) (h12 : a12 0 = 0) (h8 : a8 0 = x)
    (H : post 1 (q0, q1, hd, pn, ex, pc, lv, a1, a2, a3, a4, a5, a6, a7, a8, a9, a10, a11, upd a12 0 1, upd a13 0 x, a14, a15, a16, a17, a18, a19, a20, a21, a22)) : wpX_writePipe post (q0, q1, hd, pn, ex, pc, lv, a1, a2, a3, a4, a5, a6, a7, a8, a9, a10, a11, a12, a13, a14, a15, a16, a17, a18, a19, a20, a21, a22) 0 p1 p2 := by
  subst hp1; subst hp2; subst h8
  have e : (4 * (0 : Int32)) + ((a11 0 + a12 0) &&& 3) = nI 0 := by rw [h11, h12]; decide
  have e12 : (a12 0 + 1).toInt8.toInt32 = 1 := by rw [h12]; decide
  have n14 : ¬ a14 0 = 0 := by rw [h14]; decide
  exact br_f (by decide) (tk_isR0 (br_t rfl (tk_pof (by decide) ⟨pk_in 0 3 (by decide), br_f n14 ⟨pk_in 0 3 (by decide), pk_in 0 3 (by decide), pk_in 0 24 (by decide), pk_in 0 12 (by decide) e,
    nm_r (e' := upd a13 0 (a8 0)) (congrArg (fun k : Int32 => upd a13 k.toNatClampNeg (a8 0)) e) ⟨pk_in 0 3 (by decide), pk_in 0 3 (by decide), nm_r (e' := upd a12 0 1) (congrArg (upd a12 0) e12) H⟩⟩⟩)))
theorem tk_rp {post : Int32 → St2 → Prop} {x p : Int32} (hp : p = 1) (h11 : a11 0 = 0) (h12 : a12 0 = 1) (h13 : a13 0 = x)
    (H : post x (q0, q1, hd, pn, ex, pc, lv, a1, a2, a3, a4, a5, a6, a7, a8, a9, a10, upd a11 0 1, upd a12 0 0, a13, a14, a15, a16, a17, a18, a19, a20, a21, a22)) : wpX_readPipe post (q0, q1, hd, pn, ex, pc, lv, a1, a2, a3, a4, a5, a6, a7, a8, a9, a10, a11, a12, a13, a14, a15, a16, a17, a18, a19, a20, a21, a22) p := by
  subst hp; subst h13
  have e : (4 * (0 : Int32)) + a11 0 = nI 0 := by rw [h11]; decide
  have e11 : ((a11 0 + 1) &&& 3).toInt8.toInt32 = 1 := by rw [h11]; decide
  have e12 : (a12 0 - 1).toInt8.toInt32 = 0 := by rw [h12]; decide
  have n12 : ¬ a12 0 = 0 := by rw [h12]; decide
  exact br_f (by decide) (tk_isR1 (br_f (by decide) (tk_pof (by decide) ⟨pk_in 0 3 (by decide), br_f n12 ⟨pk_in 0 3 (by decide), pk_in 0 12 (by decide) e,
    nm_r (e' := a13 0) (congrArg (fun k : Int32 => a13 k.toNatClampNeg) e) ⟨pk_in 0 3 (by decide), pk_in 0 3 (by decide), nm_r (e' := upd a11 0 1) (congrArg (upd a11 0) e11)
    ⟨pk_in 0 3 (by decide), pk_in 0 3 (by decide), nm_r (e' := upd a12 0 0) (congrArg (upd a12 0) e12) H⟩⟩⟩⟩)))
theorem tk_ask {post : St2 → Prop} {x p3 : Int32} (hp : p3 = 0) (h9 : a9 0 = 1) (h11 : a11 0 = 0) (h12 : a12 0 = 1) (h13 : a13 0 = x)
    (H : post (q0, q1, hd, pn, ex, pc, lv, a1, a2, a3, a4, a5, a6, a7, upd a8 3 x, a9, a10, upd a11 0 1, upd a12 0 0, a13, a14, a15, a16, a17, a18, a19, a20, a21, a22)) : wpX_askKernel post (q0, q1, hd, pn, ex, pc, lv, a1, a2, a3, a4, a5, a6, a7, a8, a9, a10, a11, a12, a13, a14, a15, a16, a17, a18, a19, a20, a21, a22) 0 16 3 p3 :=
  br_f (by decide) (br_t rfl (tk_endAt0 hp h9 (tk_rp rfl h11 h12 h13 ⟨pk_in 3 24 (by decide), nm_e H⟩)))
end
end
section
section
variable {q0 q1 hd pn : Int32} {ex : Int64} {pc lv : Int32} {a1 a2 a3 a4 a5 a6 a7 a8 a9 a10 a11 a12 a13 a14 a15 a16 a17 a18 a19 a20 a21 a22 : Nat → Int32}
/-- an op that never waits -/
theorem tk_wwN {post : Int32 → Prop} {s : Nat} {o : Int32} (hs : s < 64) (h6 : a6 0 = nI s) (h1 : a1 s = o) (n14 : ¬ o = 14) (n16 : ¬ o = 16) (n17 : ¬ o = 17) (H : post 0) : wpX_wouldWait post (q0, q1, hd, pn, ex, pc, lv, a1, a2, a3, a4, a5, a6, a7, a8, a9, a10, a11, a12, a13, a14, a15, a16, a17, a18, a19, a20, a21, a22) 0 :=
  ⟨pk_in 0 6 (by decide), nm_r h6 ⟨vp_in_nI hs (by decide), nm_r (e' := o) (by rw [nI_clamp (by omega)]; exact h1) (br_f n14 (br_f n16 (br_f n17 H)))⟩⟩
theorem tk_wwW {post : Int32 → Prop} {s : Nat} (hs : s < 64) (h6 : a6 0 = nI s) (h1 : a1 s = 17) (h3 : a3 s = 2) (h8 : a8 2 = 1) (h9 : a9 1 = 2) (h12 : a12 0 = 0) (H : post 0) : wpX_wouldWait post (q0, q1, hd, pn, ex, pc, lv, a1, a2, a3, a4, a5, a6, a7, a8, a9, a10, a11, a12, a13, a14, a15, a16, a17, a18, a19, a20, a21, a22) 0 := by
  have c : (nI s).toNatClampNeg = s := nI_clamp (by omega)
  have e1 : a1 (nI s).toNatClampNeg = 17 := by rw [c]; exact h1
  have e : (4 * (0 : Int32)) + a3 (nI s).toNatClampNeg = nI 2 := by rw [c, h3]; decide
  have e8 : a8 ((4 * (0 : Int32)) + a3 (nI s).toNatClampNeg).toNatClampNeg = 1 := by rw [e]; exact h8
  have n12 : ¬ a12 0 = 4 := by rw [h12]; decide
  refine ⟨pk_in 0 6 (by decide), nm_r h6 ⟨vp_in_nI hs (by decide), nm_r e1 (br_f (by decide) (br_f (by decide) (br_t rfl ?_)))⟩⟩
  exact ⟨vp_in_nI hs (by decide), pk_in 2 24 (by decide) e, tk_endAt1 e8 h9 (br_f (by decide) (tk_isR0 (br_f (by decide) (br_t rfl (tk_pof (by decide) (br_f (by decide) ⟨pk_in 0 3 (by decide), br_f n12 H⟩))))))⟩
theorem tk_wwR {post : Int32 → Prop} {s : Nat} (hs : s < 64) (h6 : a6 0 = nI s) (h1 : a1 s = 16) (h3 : a3 s = 1) (h8 : a8 1 = 0) (h9 : a9 0 = 1) (h12 : a12 0 = 1) (H : post 0) : wpX_wouldWait post (q0, q1, hd, pn, ex, pc, lv, a1, a2, a3, a4, a5, a6, a7, a8, a9, a10, a11, a12, a13, a14, a15, a16, a17, a18, a19, a20, a21, a22) 0 := by
  have c : (nI s).toNatClampNeg = s := nI_clamp (by omega)
  have e1 : a1 (nI s).toNatClampNeg = 16 := by rw [c]; exact h1
  have e : (4 * (0 : Int32)) + a3 (nI s).toNatClampNeg = nI 1 := by rw [c, h3]; decide
  have e8 : a8 ((4 * (0 : Int32)) + a3 (nI s).toNatClampNeg).toNatClampNeg = 0 := by rw [e]; exact h8
  have n12 : ¬ a12 0 = 0 := by rw [h12]; decide
  refine ⟨pk_in 0 6 (by decide), nm_r h6 ⟨vp_in_nI hs (by decide), nm_r e1 (br_f (by decide) (br_t rfl ?_))⟩⟩
  exact ⟨vp_in_nI hs (by decide), pk_in 1 24 (by decide) e, tk_endAt0 e8 h9 (br_f (by decide) (tk_isR1 (br_t rfl (br_t rfl (tk_pof (by decide) (br_t rfl ⟨pk_in 0 3 (by decide), br_f n12 H⟩))))))⟩
/-- PIPE -/
theorem tk_xP {post : St2 → Prop} {s : Nat} (hs : s < 64) (h1 : a1 s = 15) (h2 : a2 s = 1) (h3 : a3 s = 2) (h90 : a9 0 = 0) (h91 : a9 1 = 0) (h14 : a14 0 = 0) (h15 : a15 0 = 0)
    (H : ∀ a6 : Nat → Int32, a6 0 = nI (s + 1) → post (q0, q1, hd, pn, ex, pc, lv, a1, a2, a3, a4, a5, a6, a7, upd (upd a8 1 0) 2 1, upd (upd a9 0 1) 1 2, a10, upd a11 0 0, upd a12 0 0, a13, upd a14 0 1, upd a15 0 1, a16, a17, a18, a19, a20, a21, a22)) : wpX_execute post (q0, q1, hd, pn, ex, pc, lv, a1, a2, a3, a4, a5, a6, a7, a8, a9, a10, a11, a12, a13, a14, a15, a16, a17, a18, a19, a20, a21, a22) 0 (nI s) := by
  have c : (nI s).toNatClampNeg = s := nI_clamp (by omega)
  have v : vp_in (nI s) 64 := vp_in_nI hs (by decide)
  have e1 : a1 (nI s).toNatClampNeg = 15 := by rw [c]; exact h1
  have e2 : (4 * (0 : Int32)) + a2 (nI s).toNatClampNeg = 1 := by rw [c, h2]; decide
  have e3 : (4 * (0 : Int32)) + a3 (nI s).toNatClampNeg = 2 := by rw [c, h3]; decide
  refine ⟨v, nm_r e1 ⟨v, nm_r e2 ⟨v, nm_r e3 ⟨v, nm_e ⟨pk_in 0 6 (by decide), nm_e ?_⟩⟩⟩⟩⟩
  refine br_f (by decide) (br_t (by decide) (br_f (by decide) (br_f (by decide) (br_t (by decide) (br_f (by decide) (br_f (by decide) (br_t rfl ?_)))))))
  exact tk_mk (by decide) (by decide) h90 h91 h14 h15 (H _ (nI_1 s))
/-- WRITE -/
theorem tk_xW {post : St2 → Prop} {s : Nat} {x : Int32} (hs : s < 64) (h1 : a1 s = 17) (h2 : a2 s = 0) (h3 : a3 s = 2) (h80 : a8 0 = x) (h82 : a8 2 = 1) (h91 : a9 1 = 2) (h14 : a14 0 = 1) (h11 : a11 0 = 0) (h12 : a12 0 = 0)
    (H : ∀ a6 : Nat → Int32, a6 0 = nI (s + 1) → post (q0, q1, hd, pn, ex, pc, lv, a1, a2, a3, a4, a5, a6, a7, a8, a9, a10, a11, upd a12 0 1, upd a13 0 x, a14, a15, a16, a17, a18, a19, a20, a21, a22)) : wpX_execute post (q0, q1, hd, pn, ex, pc, lv, a1, a2, a3, a4, a5, a6, a7, a8, a9, a10, a11, a12, a13, a14, a15, a16, a17, a18, a19, a20, a21, a22) 0 (nI s) := by
  have c : (nI s).toNatClampNeg = s := nI_clamp (by omega)
  have v : vp_in (nI s) 64 := vp_in_nI hs (by decide)
  have e1 : a1 (nI s).toNatClampNeg = 17 := by rw [c]; exact h1
  have e2 : (4 * (0 : Int32)) + a2 (nI s).toNatClampNeg = 0 := by rw [c, h2]; decide
  have e3 : (4 * (0 : Int32)) + a3 (nI s).toNatClampNeg = 2 := by rw [c, h3]; decide
  refine ⟨v, nm_r e1 ⟨v, nm_r e2 ⟨v, nm_r e3 ⟨v, nm_e ⟨pk_in 0 6 (by decide), nm_e ?_⟩⟩⟩⟩⟩
  refine br_f (by decide) (br_t (by decide) (br_f (by decide) (br_f (by decide) (br_t (by decide) (br_t rfl ⟨pk_in 2 24 (by decide), ?_⟩)))))
  exact tk_endAt1 h82 h91 (tk_wp rfl (by decide) h14 h11 h12 h80 (br_f (by decide) (H _ (nI_1 s))))
/-- READ -/
theorem tk_xR {post : St2 → Prop} {s : Nat} {x : Int32} (hs : s < 64) (h1 : a1 s = 16) (h2 : a2 s = 3) (h3 : a3 s = 1) (h81 : a8 1 = 0) (h90 : a9 0 = 1) (h11 : a11 0 = 0) (h12 : a12 0 = 1) (h13 : a13 0 = x)
    (H : ∀ a6 : Nat → Int32, a6 0 = nI (s + 1) → post (q0, q1, hd, pn, ex, pc, lv, a1, a2, a3, a4, a5, a6, a7, upd a8 3 x, a9, a10, upd a11 0 1, upd a12 0 0, a13, a14, a15, a16, a17, a18, a19, a20, a21, a22)) : wpX_execute post (q0, q1, hd, pn, ex, pc, lv, a1, a2, a3, a4, a5, a6, a7, a8, a9, a10, a11, a12, a13, a14, a15, a16, a17, a18, a19, a20, a21, a22) 0 (nI s) := by
  have c : (nI s).toNatClampNeg = s := nI_clamp (by omega)
  have v : vp_in (nI s) 64 := vp_in_nI hs (by decide)
  have e1 : a1 (nI s).toNatClampNeg = 16 := by rw [c]; exact h1
  have e2 : (4 * (0 : Int32)) + a2 (nI s).toNatClampNeg = 3 := by rw [c, h2]; decide
  have e3 : (4 * (0 : Int32)) + a3 (nI s).toNatClampNeg = 1 := by rw [c, h3]; decide
  refine ⟨v, nm_r e1 ⟨v, nm_r e2 ⟨v, nm_r e3 ⟨v, nm_e ⟨pk_in 0 6 (by decide), nm_e ?_⟩⟩⟩⟩⟩
  refine br_f (by decide) (br_t (by decide) (br_f (by decide) (br_f (by decide) (br_t (by decide) (br_f (by decide) (br_f (by decide) (br_f (by decide) (br_f (by decide) (br_f (by decide) ⟨pk_in 1 24 (by decide), ?_⟩)))))))))
  exact tk_ask h81 h90 h11 h12 h13 (H _ (nI_1 s))
/-- JUMP -/
theorem tk_xJ {post : St2 → Prop} {s : Nat} {n : Int32} (hs : s < 64) (h1 : a1 s = 11) (h2 : a2 s = 0) (h4 : a4 s = n)
    (H : ∀ a6 : Nat → Int32, a6 0 = n → post (q0, q1, hd, pn, ex, pc, lv, a1, a2, a3, a4, a5, a6, a7, a8, a9, a10, a11, a12, a13, a14, a15, a16, a17, a18, a19, a20, a21, a22)) : wpX_execute post (q0, q1, hd, pn, ex, pc, lv, a1, a2, a3, a4, a5, a6, a7, a8, a9, a10, a11, a12, a13, a14, a15, a16, a17, a18, a19, a20, a21, a22) 0 (nI s) := by
  have c : (nI s).toNatClampNeg = s := nI_clamp (by omega)
  have v : vp_in (nI s) 64 := vp_in_nI hs (by decide)
  have e1 : a1 (nI s).toNatClampNeg = 11 := by rw [c]; exact h1
  have e2 : (4 * (0 : Int32)) + a2 (nI s).toNatClampNeg = 0 := by rw [c, h2]; decide
  have e4 : a4 (nI s).toNatClampNeg = n := by rw [c]; exact h4
  refine ⟨v, nm_r e1 ⟨v, nm_r e2 ⟨v, nm_e ⟨v, nm_r e4 ⟨pk_in 0 6 (by decide), nm_e ?_⟩⟩⟩⟩⟩
  refine br_f (by decide) (br_t (by decide) (br_f (by decide) (br_f (by decide) (br_f (by decide) ⟨pk_in 0 24 (by decide), ?_⟩))))
  exact br_c (fun _ => br_t rfl ⟨pk_in 0 6 (by decide), nm_e (H _ rfl)⟩) (fun _ => br_t rfl ⟨pk_in 0 6 (by decide), nm_e (H _ rfl)⟩)
/-- one round of work's loop -/
theorem tk_wstep {post : St2 → Prop} {n i j : Nat} {x y : Int32} {b8 b9 b11 b12 b13 b14 b15 : Nat → Int32} (hx : ¬ 3 ≤ x) (hy : x + 1 = y) (hi : i < 64) (h6 : a6 0 = nI i) (h5 : a5 0 = 1) (h1 : ¬ a1 i = 20)
    (hw : ∀ P : Int32 → Prop, P 0 → wpX_wouldWait P (q0, q1, hd, pn, ex, pc, lv, a1, a2, a3, a4, a5, a6, a7, a8, a9, a10, a11, a12, a13, a14, a15, a16, a17, a18, a19, a20, a21, a22) 0)
    (he : ∀ P : St2 → Prop, (∀ a6 : Nat → Int32, a6 0 = nI j → P (q0, q1, hd, pn, ex + 1, pc, lv, a1, a2, a3, a4, a5, a6, a7, b8, b9, a10, b11, b12, b13, b14, b15, a16, a17, a18, a19, a20, a21, a22)) → wpX_execute P (q0, q1, hd, pn, ex + 1, pc, lv, a1, a2, a3, a4, a5, a6, a7, a8, a9, a10, a11, a12, a13, a14, a15, a16, a17, a18, a19, a20, a21, a22) 0 (nI i))
    (H : ∀ a6 : Nat → Int32, a6 0 = nI j → wX_work_4 post 0 n 1 y q0 q1 hd pn (ex + 1) pc lv a1 a2 a3 a4 a5 a6 a7 b8 b9 a10 b11 b12 b13 b14 b15 a16 a17 a18 a19 a20 a21 a22) : wX_work_4 post 0 (n + 1) 1 x q0 q1 hd pn ex pc lv a1 a2 a3 a4 a5 a6 a7 a8 a9 a10 a11 a12 a13 a14 a15 a16 a17 a18 a19 a20 a21 a22 := by
  have c : (nI i).toNatClampNeg = i := nI_clamp (by omega)
  have n1 : ¬ a1 (nI i).toNatClampNeg = 20 := by rw [c]; exact h1
  refine br_f hx (br_f (by decide) ⟨pk_in 0 6 (by decide), nm_r h6 (br_f (nI_pos (by omega)) (br_t (nI_le (a := i) (b := 63) (by omega) (by decide)) ?_))⟩)
  refine hw _ (br_t rfl (nm_e (he _ (fun a6' h6' => ⟨pk_in 0 6 (by decide), br_t h5 ⟨vp_in_nI hi (by decide), br_f n1 (nm_r hy (H a6' h6'))⟩⟩))))
/-- the first turn's work: PIPE, WRITE, READ -/
theorem tk_work1 {post : St2 → Prop} {s : Nat} {x : Int32} (hs : s < 32) (h5 : a5 0 = 1) (h6 : a6 0 = nI s)
    (o0 : a1 s = 15) (o1 : a1 (s + 1) = 17) (o2 : a1 (s + 2) = 16) (l0 : a2 s = 1) (l1 : a2 (s + 1) = 0) (l2 : a2 (s + 2) = 3) (r0 : a3 s = 2) (r1 : a3 (s + 1) = 2) (r2 : a3 (s + 2) = 1)
    (h8 : a8 0 = x) (h90 : a9 0 = 0) (h91 : a9 1 = 0) (h14 : a14 0 = 0) (h15 : a15 0 = 0)
    (H : ∀ a6 : Nat → Int32, a6 0 = nI (s + 3) → post (q0, q1, hd, pn, ex + 1 + 1 + 1, pc, lv, a1, a2, a3, a4, a5, a6, a7, upd (upd (upd a8 1 0) 2 1) 3 x, upd (upd a9 0 1) 1 2, a10, upd (upd a11 0 0) 0 1, upd (upd (upd a12 0 0) 0 1) 0 0, upd a13 0 x, upd a14 0 1, upd a15 0 1, a16, a17, a18, a19, a20, a21, a22)) : wpX_work post (q0, q1, hd, pn, ex, pc, lv, a1, a2, a3, a4, a5, a6, a7, a8, a9, a10, a11, a12, a13, a14, a15, a16, a17, a18, a19, a20, a21, a22) 0 := by
  refine ⟨4, ?_⟩
  refine tk_wstep (n := 3) (j := s + 1) (y := 1) (by decide) (by decide) (show s < 64 by omega) h6 h5 (by rw [o0]; decide) (fun P => tk_wwN (by omega) h6 o0 (by decide) (by decide) (by decide)) (fun P => tk_xP (by omega) o0 l0 r0 h90 h91 h14 h15) (fun b6 g6 => ?_)
  refine tk_wstep (n := 2) (j := s + 2) (y := 2) (by decide) (by decide) (show s + 1 < 64 by omega) g6 h5 (by rw [o1]; decide) (fun P => tk_wwW (by omega) g6 o1 r1 (by rfl) (by rfl) (by rfl)) (fun P => tk_xW (x := x) (by omega) o1 l1 r1 h8 (by rfl) (by rfl) (by rfl) (by rfl) (by rfl)) (fun b6 g6 => ?_)
  refine tk_wstep (n := 1) (j := s + 3) (y := 3) (by decide) (by decide) (show s + 2 < 64 by omega) g6 h5 (by rw [o2]; decide) (fun P => tk_wwR (by omega) g6 o2 r2 (by rfl) (by rfl) (by rfl)) (fun P => tk_xR (x := x) (by omega) o2 l2 r2 (by rfl) (by rfl) (by rfl) (by rfl) (by rfl)) (fun b6 g6 => ?_)
  exact br_t (by decide) (H b6 g6)
/-- the second turn's work: JUMP, three times -/
theorem tk_work2 {post : St2 → Prop} {s : Nat} (hs : s < 64) (h5 : a5 0 = 1) (h6 : a6 0 = nI s) (o0 : a1 s = 11) (l0 : a2 s = 0) (n0 : a4 s = nI s)
    (H : ∀ a6 : Nat → Int32, a6 0 = nI s → post (q0, q1, hd, pn, ex + 1 + 1 + 1, pc, lv, a1, a2, a3, a4, a5, a6, a7, a8, a9, a10, a11, a12, a13, a14, a15, a16, a17, a18, a19, a20, a21, a22)) : wpX_work post (q0, q1, hd, pn, ex, pc, lv, a1, a2, a3, a4, a5, a6, a7, a8, a9, a10, a11, a12, a13, a14, a15, a16, a17, a18, a19, a20, a21, a22) 0 := by
  refine ⟨4, ?_⟩
  refine tk_wstep (n := 3) (j := s) (y := 1) (by decide) (by decide) hs h6 h5 (by rw [o0]; decide) (fun P => tk_wwN hs h6 o0 (by decide) (by decide) (by decide)) (fun P => tk_xJ hs o0 l0 n0) (fun b6 g6 => ?_)
  refine tk_wstep (n := 2) (j := s) (y := 2) (by decide) (by decide) hs g6 h5 (by rw [o0]; decide) (fun P => tk_wwN hs g6 o0 (by decide) (by decide) (by decide)) (fun P => tk_xJ hs o0 l0 n0) (fun b6 g6 => ?_)
  refine tk_wstep (n := 1) (j := s) (y := 3) (by decide) (by decide) hs g6 h5 (by rw [o0]; decide) (fun P => tk_wwN hs g6 o0 (by decide) (by decide) (by decide)) (fun P => tk_xJ hs o0 l0 n0) (fun b6 g6 => ?_)
  exact br_t (by decide) (H b6 g6)
theorem tk_t1 {post : Int32 → St2 → Prop} {n : Nat} {x y : Int32} (h : ¬ 6 ≤ x) (hi : vp_in x 6) (hy : x + 1 = y) (h5 : ¬ a5 x.toNatClampNeg = 2) (H : wX_turn_2 post n y q0 q1 hd pn ex pc lv a1 a2 a3 a4 a5 a6 a7 a8 a9 a10 a11 a12 a13 a14 a15 a16 a17 a18 a19 a20 a21 a22) : wX_turn_2 post (n + 1) x q0 q1 hd pn ex pc lv a1 a2 a3 a4 a5 a6 a7 a8 a9 a10 a11 a12 a13 a14 a15 a16 a17 a18 a19 a20 a21 a22 :=
  br_f h ⟨hi, br_f h5 (nm_r hy H)⟩
/-- a turn, whatever its work does to these places -/
theorem tk_turn {post : Int32 → St2 → Prop} {j : Nat} {ex' : Int64} {b8 b9 b11 b12 b13 b14 b15 : Nat → Int32} (h5 : a5 0 = 1) (h51 : ¬ a5 1 = 2) (h52 : ¬ a5 2 = 2) (h53 : ¬ a5 3 = 2) (h54 : ¬ a5 4 = 2) (h55 : ¬ a5 5 = 2) (h10 : a10 0 = -1)
    (hw : ∀ P : St2 → Prop, (∀ a6 : Nat → Int32, a6 0 = nI j → P (-1, -1, hd, pn, ex', pc, lv, a1, a2, a3, a4, a5, a6, a7, b8, b9, a10, b11, b12, b13, b14, b15, a16, a17, a18, a19, a20, a21, a22)) → wpX_work P (-1, -1, hd, pn, ex, pc, lv, a1, a2, a3, a4, a5, a6, a7, a8, a9, a10, a11, a12, a13, a14, a15, a16, a17, a18, a19, a20, a21, a22) 0)
    (H : ∀ a6 : Nat → Int32, a6 0 = nI j → post 1 (0, 0, hd, pn, ex', pc, lv, a1, a2, a3, a4, a5, a6, a7, b8, b9, upd a10 0 (-1), b11, b12, b13, b14, b15, a16, a17, a18, a19, a20, a21, a22)) : wpX_turn post (0, q1, hd, pn, ex, pc, lv, a1, a2, a3, a4, a5, a6, a7, a8, a9, a10, a11, a12, a13, a14, a15, a16, a17, a18, a19, a20, a21, a22) := by
  have h50 : ¬ a5 0 = 2 := by rw [h5]; decide
  refine ⟨7, ?_⟩
  refine tk_t1 (n := 6) (y := 1) (by decide) (pk_in 0 6 (by decide)) (by decide) h50 ?_
  refine tk_t1 (n := 5) (y := 2) (by decide) (pk_in 1 6 (by decide)) (by decide) h51 ?_
  refine tk_t1 (n := 4) (y := 3) (by decide) (pk_in 2 6 (by decide)) (by decide) h52 ?_
  refine tk_t1 (n := 3) (y := 4) (by decide) (pk_in 3 6 (by decide)) (by decide) h53 ?_
  refine tk_t1 (n := 2) (y := 5) (by decide) (pk_in 4 6 (by decide)) (by decide) h54 ?_
  refine tk_t1 (n := 1) (y := 6) (by decide) (pk_in 5 6 (by decide)) (by decide) h55 ?_
  refine br_t (by decide) (tk_deq h10 (br_t (by decide) (hw _ (fun b6 g6 => ?_))))
  exact ⟨pk_in 0 6 (by decide), br_t h5 (tk_enq (by decide) (H b6 g6))⟩
end
end
section
section
variable {q0 q1 hd pn : Int32} {ex : Int64} {pc lv : Int32} {a1 a2 a3 a4 a5 a6 a7 a8 a9 a10 a11 a12 a13 a14 a15 a16 a17 a18 a19 a20 a21 a22 : Nat → Int32}
/-- run(2): the two turns -/
theorem tk_run {post : Int32 → St2 → Prop} {s : Nat} {x : Int32} (hs : s < 32) (h5 : a5 0 = 1) (h51 : ¬ a5 1 = 2) (h52 : ¬ a5 2 = 2) (h53 : ¬ a5 3 = 2) (h54 : ¬ a5 4 = 2) (h55 : ¬ a5 5 = 2) (h6 : a6 0 = nI s) (h10 : a10 0 = -1)
    (o0 : a1 s = 15) (o1 : a1 (s + 1) = 17) (o2 : a1 (s + 2) = 16) (o3 : a1 (s + 3) = 11) (l0 : a2 s = 1) (l1 : a2 (s + 1) = 0) (l2 : a2 (s + 2) = 3) (l3 : a2 (s + 3) = 0) (r0 : a3 s = 2) (r1 : a3 (s + 1) = 2) (r2 : a3 (s + 2) = 1) (n3 : a4 (s + 3) = nI (s + 3))
    (h8 : a8 0 = x) (h90 : a9 0 = 0) (h91 : a9 1 = 0) (h14 : a14 0 = 0) (h15 : a15 0 = 0)
    (H : ∀ a6 a8 a9 a10 a11 a12 a13 a14 a15 : Nat → Int32, a8 3 = x → a9 1 = 2 → a12 0 = 0 → a14 0 = 1 → a15 0 = 1 → post 2 (0, 0, hd, pn, ex + 1 + 1 + 1 + 1 + 1 + 1, pc, lv, a1, a2, a3, a4, a5, a6, a7, a8, a9, a10, a11, a12, a13, a14, a15, a16, a17, a18, a19, a20, a21, a22)) : wpX_run post (0, q1, hd, pn, ex, pc, lv, a1, a2, a3, a4, a5, a6, a7, a8, a9, a10, a11, a12, a13, a14, a15, a16, a17, a18, a19, a20, a21, a22) 2 := by
  refine br_t (by decide) (br_t (by decide) ⟨3, br_f (by decide) (br_f (by decide) ?_)⟩)
  refine tk_turn (j := s + 3) h5 h51 h52 h53 h54 h55 h10 (fun P => tk_work1 (x := x) hs h5 h6 o0 o1 o2 l0 l1 l2 r0 r1 r2 h8 h90 h91 h14 h15) (fun b6 g6 => ?_)
  refine br_f (by decide) (nm_r (e' := 1) (by decide) (br_f (by decide) (br_f (by decide) ?_)))
  refine tk_turn (j := s + 3) h5 h51 h52 h53 h54 h55 (by rfl) (fun P => tk_work2 (show s + 3 < 64 by omega) h5 g6 o3 l3 n3) (fun b6 g6 => ?_)
  refine br_f (by decide) (nm_r (e' := 2) (by decide) (br_t (by decide) ?_))
  exact H _ _ _ _ _ _ _ _ _ (by rfl) (by rfl) (by rfl) (by rfl) (by rfl)
theorem tk_alive {post : Int32 → Prop} (h5 : a5 0 = 1) (H : post 1) : wpX_isAlive post (q0, q1, hd, pn, ex, pc, lv, a1, a2, a3, a4, a5, a6, a7, a8, a9, a10, a11, a12, a13, a14, a15, a16, a17, a18, a19, a20, a21, a22) 0 :=
  br_f (by decide) (br_f (by decide) (br_f (by decide) ⟨pk_in 0 6 (by decide), br_t h5 H⟩))
theorem tk_reg {post : Int32 → Prop} {x : Int32} (h5 : a5 0 = 1) (h8 : a8 3 = x) (H : post x) : wpX_register post (q0, q1, hd, pn, ex, pc, lv, a1, a2, a3, a4, a5, a6, a7, a8, a9, a10, a11, a12, a13, a14, a15, a16, a17, a18, a19, a20, a21, a22) 0 3 := by
  subst h8
  unfold wpX_register
  refine tk_alive h5 ?_
  exact br_f (by decide) (br_f (by decide) (br_f (by decide) ⟨pk_in 3 24 (by decide), H⟩))
theorem tk_desc {post : Int32 → Prop} {x : Int32} (h5 : a5 0 = 1) (h9 : a9 1 = x) (H : post x) : wpX_descriptor post (q0, q1, hd, pn, ex, pc, lv, a1, a2, a3, a4, a5, a6, a7, a8, a9, a10, a11, a12, a13, a14, a15, a16, a17, a18, a19, a20, a21, a22) 0 1 := by
  subst h9
  unfold wpX_descriptor
  refine tk_alive h5 ?_
  exact br_f (by decide) (br_f (by decide) (br_f (by decide) ⟨pk_in 1 24 (by decide), H⟩))
theorem tk_pipe {post : Int32 → Prop} {x : Int32} (h12 : a12 0 = x) (h14 : a14 0 = 1) (h15 : a15 0 = 1) (H : post x) : wpX_pipe post (q0, q1, hd, pn, ex, pc, lv, a1, a2, a3, a4, a5, a6, a7, a8, a9, a10, a11, a12, a13, a14, a15, a16, a17, a18, a19, a20, a21, a22) 0 := by
  subst h12
  have e : ¬ a14 0 + a15 0 ≤ 0 := by rw [h14, h15]; decide
  exact br_f (by decide) (br_t (by decide) ⟨pk_in 0 3 (by decide), pk_in 0 3 (by decide), br_f e (br_f (by decide) ⟨pk_in 0 3 (by decide), H⟩)⟩)
end
theorem tk_lawOf {post : Int32 → St0 → Prop} {mc ms : Nat} {x p : Int32} (hc : 23 ≤ mc) (hm : 753 ≤ ms) (H : post 1 ()) : wpL_lawOf post mc ms () x p := by
  obtain ⟨s, hs, e⟩ := pk_andE p (m := 31) 5 rfl
  have hs : s < 32 := hs
  refine nm_r e ⟨by omega, by omega, 22, 724, by omega, by omega, tk_init (by omega) (by omega) (fun b7 => ?_)⟩
  refine tk_code (s := s) (o := 15) (a := 1) (b := 2) rfl (by omega) (by decide) (by decide) (by decide) (by decide) (by decide) (by decide) (br_f (by decide) ?_)
  refine tk_code (s := s + 1) (o := 17) (a := 0) (b := 2) (nI_1 s) (by omega) (by decide) (by decide) (by decide) (by decide) (by decide) (by decide) (br_f (by decide) ?_)
  refine tk_code (s := s + 2) (o := 16) (a := 3) (b := 1) (nI_add s 2) (by omega) (by decide) (by decide) (by decide) (by decide) (by decide) (by decide) (br_f (by decide) ?_)
  refine tk_code (s := s + 3) (o := 11) (a := 0) (b := 0) (nI_add s 3) (by omega) (by decide) (by decide) (by decide) (by decide) (by decide) (by decide) (br_f (by decide) ?_)
  refine tk_spawn rfl (by decide) (fun c7 c8 c9 h8 h90 h91 => br_t rfl ?_)
  refine tk_run (s := s) (x := x) hs (by rfl) (by decide) (by decide) (by decide) (by decide) (by decide) (by rfl) (by rfl) (by simp [upd]) (by simp [upd]) (by simp [upd]) (by simp [upd]) (by simp [upd]) (by simp [upd]) (by simp [upd]) (by simp [upd]) (by simp [upd]) (by simp [upd]) (by simp [upd]) (by simp only [upd, if_true]; exact nI_add s 3) h8 h90 h91 (by rfl) (by rfl) ?_
  intro d6 d8 d9 d10 d11 d12 d13 d14 d15 g8 g9 g12 g14 g15
  refine br_t rfl (tk_reg (by rfl) g8 (br_t rfl (tk_desc (by rfl) g9 (br_t rfl (tk_pipe g12 g14 g15 (br_t rfl ?_))))))
  exact br_t (by decide) H
theorem i_vc (xs : Nat → Int32) (L : Nat) (hL : L ≤ 2) : wpL_law (fun r => r = 1) L xs := by
  have K : ∀ x p : Int32, ∃ mc_4 ms_5 : Nat, 0 + mc_4 ≤ 310 ∧ 0 + ms_5 ≤ 4960 ∧ (wpL_lawOf (fun r_3 _ => r_3 = 1) mc_4 ms_5 () x p) :=
    fun x p => ⟨310, 4960, by omega, by omega, tk_lawOf (by omega) (by omega) rfl⟩
  have C : ∀ (Q : Int32 → Prop) (k : Nat), k < 2 → (∀ r, Q r) → wpL_cellAt Q L xs () (nI k) := fun Q k hk h =>
    pk_le L k (fun _ => h _) (fun z => ⟨pk_in k L z, h _⟩)
  exact C _ 0 (by decide) (fun r => C _ 1 (by decide) (fun r' => K r r'))
end
