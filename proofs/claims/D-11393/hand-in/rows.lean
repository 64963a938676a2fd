section
/-- a small natural survives the byte -/
theorem mr_b : ∀ t, t < 128 → (nI t).toInt8.toInt32 = nI t := by decide +kernel
theorem mr_ix6 (f d : Nat) : (6 : Int32) * nI f + nI d = nI (6 * f + d) := by
  rw [← nI_add, ← pk_mul]; rfl
theorem mr_ix4 (f d : Nat) : (4 : Int32) * nI f + nI d = nI (4 * f + d) := by
  rw [← nI_add, ← pk_mul]; rfl
theorem mr_top {pr lv fc ou yu rm mk sc md rs rn pc wc : Int32} {a1 a2 a3 a4 a5 a6 a7 a8 a9 a10 a11 a12 a13 a14 a15 a16 a17 a18 a19 a20 a21 a22 : Nat → Int32} {post : Int32 → Prop} {f : Nat} (hf : fc - 1 = nI f) (H : post (nI f)) : wpX_top post (pr, lv, fc, ou, yu, rm, mk, sc, md, rs, rn, pc, wc, a1, a2, a3, a4, a5, a6, a7, a8, a9, a10, a11, a12, a13, a14, a15, a16, a17, a18, a19, a20, a21, a22) := by
  unfold wpX_top
  dsimp only
  rw [hf]
  exact H
theorem mr_push {pr lv fc ou yu rm mk sc md rs rn pc wc : Int32} {a1 a2 a3 a4 a5 a6 a7 a8 a9 a10 a11 a12 a13 a14 a15 a16 a17 a18 a19 a20 a21 a22 : Nat → Int32} {post : St2 → Prop} {p0 p1 : Int32} (f d e : Nat) (hf : fc - 1 = nI f) (h10 : f < 10) (hd : a14 f = nI d) (hd6 : d < 6) (he : 6 * f + d = e)
    (H : post (pr, lv, fc, ou, yu, rm, mk, sc, md, rs, rn, pc, wc, a1, a2, a3, a4, a5, a6, a7, a8, a9, a10, a11, a12, a13, upd a14 f (nI (d + 1)), upd a15 e p0.toInt8.toInt32, upd a16 e p1, a17, a18, a19, a20, a21, a22)) :
    wpX_push post (pr, lv, fc, ou, yu, rm, mk, sc, md, rs, rn, pc, wc, a1, a2, a3, a4, a5, a6, a7, a8, a9, a10, a11, a12, a13, a14, a15, a16, a17, a18, a19, a20, a21, a22) p0 p1 := by
  unfold wpX_push wpX_top
  dsimp only
  rw [hf, nI_clamp (show f < 2 ^ 31 by omega), hd, mr_ix6, he, nI_clamp (show e < 2 ^ 31 by omega), nI_1, mr_b (d + 1) (by omega)]
  exact ⟨pk_in f 10 h10, pk_in e 60 (by omega), nm_e ⟨pk_in f 10 h10, pk_in e 60 (by omega), nm_e ⟨pk_in f 10 h10, pk_in f 10 h10, nm_e H⟩⟩⟩
theorem mr_drop {pr lv fc ou yu rm mk sc md rs rn pc wc : Int32} {a1 a2 a3 a4 a5 a6 a7 a8 a9 a10 a11 a12 a13 a14 a15 a16 a17 a18 a19 a20 a21 a22 : Nat → Int32} {post : St2 → Prop} {p0 : Int32} (f d c g : Nat) (hf : fc - 1 = nI f) (h10 : f < 10) (hd : a14 f = nI d) (hd6 : d < 7) (hp : p0 = nI c) (hc : d = g + c)
    (H : post (pr, lv, fc, ou, yu, rm, mk, sc, md, rs, rn, pc, wc, a1, a2, a3, a4, a5, a6, a7, a8, a9, a10, a11, a12, a13, upd a14 f (nI g), a15, a16, a17, a18, a19, a20, a21, a22)) :
    wpX_dropValues post (pr, lv, fc, ou, yu, rm, mk, sc, md, rs, rn, pc, wc, a1, a2, a3, a4, a5, a6, a7, a8, a9, a10, a11, a12, a13, a14, a15, a16, a17, a18, a19, a20, a21, a22) p0 := by
  unfold wpX_dropValues wpX_top
  dsimp only
  rw [hf, nI_clamp (show f < 2 ^ 31 by omega), hd, hp, pk_sub (show c ≤ d by omega), show d - c = g by omega, mr_b g (by omega)]
  exact ⟨pk_in f 10 h10, pk_in f 10 h10, nm_e H⟩
theorem mr_ft (f d k e : Nat) (he : 6 * f + d = e + 1 + k) : (6 : Int32) * nI f + nI d - 1 - nI k = nI e := by
  rw [mr_ix6, he, show (1 : Int32) = nI 1 from rfl, pk_sub (by omega), pk_sub (by omega), show e + 1 + k - 1 - k = e by omega]
theorem mr_sortAt {pr lv fc ou yu rm mk sc md rs rn pc wc : Int32} {a1 a2 a3 a4 a5 a6 a7 a8 a9 a10 a11 a12 a13 a14 a15 a16 a17 a18 a19 a20 a21 a22 : Nat → Int32} {post : Int32 → Prop} {p0 : Int32} (f d k e : Nat) (hf : fc - 1 = nI f) (h10 : f < 10) (hd : a14 f = nI d) (hd6 : d < 7) (hp : p0 = nI k) (he : 6 * f + d = e + 1 + k)
    (H : post (a15 e)) :
    wpX_sortAt post (pr, lv, fc, ou, yu, rm, mk, sc, md, rs, rn, pc, wc, a1, a2, a3, a4, a5, a6, a7, a8, a9, a10, a11, a12, a13, a14, a15, a16, a17, a18, a19, a20, a21, a22) p0 := by
  unfold wpX_sortAt wpX_fromTop wpX_top
  dsimp only
  rw [hf, nI_clamp (show f < 2 ^ 31 by omega), hd, hp, mr_ft f d k e he, nI_clamp (show e < 2 ^ 31 by omega)]
  exact ⟨pk_in f 10 h10, pk_in e 60 (by omega), H⟩
theorem mr_numberAt {pr lv fc ou yu rm mk sc md rs rn pc wc : Int32} {a1 a2 a3 a4 a5 a6 a7 a8 a9 a10 a11 a12 a13 a14 a15 a16 a17 a18 a19 a20 a21 a22 : Nat → Int32} {post : Int32 → Prop} {p0 : Int32} (f d k e : Nat) (hf : fc - 1 = nI f) (h10 : f < 10) (hd : a14 f = nI d) (hd6 : d < 7) (hp : p0 = nI k) (he : 6 * f + d = e + 1 + k)
    (H : post (a16 e)) :
    wpX_numberAt post (pr, lv, fc, ou, yu, rm, mk, sc, md, rs, rn, pc, wc, a1, a2, a3, a4, a5, a6, a7, a8, a9, a10, a11, a12, a13, a14, a15, a16, a17, a18, a19, a20, a21, a22) p0 := by
  unfold wpX_numberAt wpX_fromTop wpX_top
  dsimp only
  rw [hf, nI_clamp (show f < 2 ^ 31 by omega), hd, hp, mr_ft f d k e he, nI_clamp (show e < 2 ^ 31 by omega)]
  exact ⟨pk_in f 10 h10, pk_in e 60 (by omega), H⟩
theorem mr_setLocal {pr lv fc ou yu rm mk sc md rs rn pc wc : Int32} {a1 a2 a3 a4 a5 a6 a7 a8 a9 a10 a11 a12 a13 a14 a15 a16 a17 a18 a19 a20 a21 a22 : Nat → Int32} {post : St2 → Prop} {p0 p1 p2 : Int32} (f l g : Nat) (hf : fc - 1 = nI f) (h10 : f < 10) (hp : p0 = nI l) (hl : l < 4) (hg : 4 * f + l = g)
    (H : post (pr, lv, fc, ou, yu, rm, mk, sc, md, rs, rn, pc, wc, a1, a2, a3, a4, a5, a6, a7, a8, a9, a10, a11, upd a12 g p1.toInt8.toInt32, upd a13 g p2, a14, a15, a16, a17, a18, a19, a20, a21, a22)) :
    wpX_setLocal post (pr, lv, fc, ou, yu, rm, mk, sc, md, rs, rn, pc, wc, a1, a2, a3, a4, a5, a6, a7, a8, a9, a10, a11, a12, a13, a14, a15, a16, a17, a18, a19, a20, a21, a22) p0 p1 p2 := by
  unfold wpX_setLocal wpX_top
  dsimp only
  rw [hf, hp, mr_ix4, hg]
  refine nm_e ?_
  rw [nI_clamp (show g < 2 ^ 31 by omega)]
  exact ⟨pk_in g 40 (by omega), nm_e ⟨pk_in g 40 (by omega), nm_e H⟩⟩
theorem mr_pushLocal {pr lv fc ou yu rm mk sc md rs rn pc wc : Int32} {a1 a2 a3 a4 a5 a6 a7 a8 a9 a10 a11 a12 a13 a14 a15 a16 a17 a18 a19 a20 a21 a22 : Nat → Int32} {post : St2 → Prop} {p0 : Int32} (f l d g e : Nat) (hf : fc - 1 = nI f) (h10 : f < 10) (hp : p0 = nI l) (hl : l < 4) (hd : a14 f = nI d) (hd6 : d < 6) (hg : 4 * f + l = g) (he : 6 * f + d = e)
    (H : post (pr, lv, fc, ou, yu, rm, mk, sc, md, rs, rn, pc, wc, a1, a2, a3, a4, a5, a6, a7, a8, a9, a10, a11, a12, a13, upd a14 f (nI (d + 1)), upd a15 e (a12 g).toInt8.toInt32, upd a16 e (a13 g), a17, a18, a19, a20, a21, a22)) :
    wpX_pushLocal post (pr, lv, fc, ou, yu, rm, mk, sc, md, rs, rn, pc, wc, a1, a2, a3, a4, a5, a6, a7, a8, a9, a10, a11, a12, a13, a14, a15, a16, a17, a18, a19, a20, a21, a22) p0 := by
  unfold wpX_pushLocal wpX_top
  dsimp only
  rw [hf, hp, mr_ix4, hg]
  refine nm_e ?_
  rw [nI_clamp (show g < 2 ^ 31 by omega)]
  exact ⟨pk_in g 40 (by omega), pk_in g 40 (by omega), mr_push f d e hf h10 hd hd6 he H⟩
theorem mr_print {pr lv fc ou yu rm mk sc md rs rn pc wc : Int32} {a1 a2 a3 a4 a5 a6 a7 a8 a9 a10 a11 a12 a13 a14 a15 a16 a17 a18 a19 a20 a21 a22 : Nat → Int32} {post : St2 → Prop} {p0 : Int32} (q : Nat) (hq : pc = nI q) (h20 : q < 20)
    (H : post (pr, lv, fc, ou, yu, rm, mk, sc, md, rs, rn, nI (q + 1), wc, a1, a2, a3, a4, a5, a6, a7, a8, a9, a10, a11, a12, a13, a14, a15, a16, a17, a18, a19, a20, a21, upd a22 q p0)) :
    wpX_print post (pr, lv, fc, ou, yu, rm, mk, sc, md, rs, rn, pc, wc, a1, a2, a3, a4, a5, a6, a7, a8, a9, a10, a11, a12, a13, a14, a15, a16, a17, a18, a19, a20, a21, a22) p0 := by
  unfold wpX_print
  dsimp only
  rw [hq, nI_clamp (show q < 2 ^ 31 by omega), nI_1]
  exact pk_le 20 q (fun z => absurd z (by omega)) (fun _ => ⟨pk_in q 20 h20, nm_e (nm_e H)⟩)
def mr_z4 (a : Nat → Int32) (n : Nat) : Nat → Int32 := upd (upd (upd (upd a n 0) (n + 1) 0) (n + 2) 0) (n + 3) 0
theorem mr_of27 {pr lv fc ou yu rm mk sc md rs rn pc wc : Int32} {a1 a2 a3 a4 a5 a6 a7 a8 a9 a10 a11 a12 a13 a14 a15 a16 a17 a18 a19 a20 a21 a22 : Nat → Int32} {post : St2 → Prop} (f n i : Nat) (hf : fc = nI f) (h10 : f < 10) (hi : i < 4)
    (H : wX_openFrame_27 post pr lv fc ou yu rm mk sc md rs rn pc wc n (nI (4 * f + i + 1)) a1 a2 a3 a4 a5 a6 a7 a8 a9 a10 a11 (upd a12 (4 * f + i) 0) (upd a13 (4 * f + i) 0) a14 a15 a16 a17 a18 a19 a20 a21 a22) :
    wX_openFrame_27 post pr lv fc ou yu rm mk sc md rs rn pc wc (n + 1) (nI (4 * f + i)) a1 a2 a3 a4 a5 a6 a7 a8 a9 a10 a11 a12 a13 a14 a15 a16 a17 a18 a19 a20 a21 a22 := by
  have e : (4 : Int32) * fc + 4 = nI (4 * f + 4) := by rw [hf]; exact mr_ix4 f 4
  unfold wX_openFrame_27
  rw [nI_clamp (show 4 * f + i < 2 ^ 31 by omega), e]
  exact pk_le (4 * f + 4) (4 * f + i) (fun z => absurd z (by omega)) (fun _ => ⟨pk_in (4 * f + i) 40 (by omega), nm_e ⟨pk_in (4 * f + i) 40 (by omega), nm_e (nm_r (nI_1 _) H)⟩⟩)
theorem mr_openFrame {pr lv fc ou yu rm mk sc md rs rn pc wc : Int32} {a1 a2 a3 a4 a5 a6 a7 a8 a9 a10 a11 a12 a13 a14 a15 a16 a17 a18 a19 a20 a21 a22 : Nat → Int32} {post : St2 → Prop} {p0 : Int32} (f g : Nat) (hf : fc = nI f) (h10 : f < 10) (hg : f + 1 = g)
    (H : post (pr, lv, nI g, ou, yu, rm, mk, sc, md, rs, rn, pc, wc, a1, a2, a3, a4, a5, a6, a7, a8, a9, a10, upd a11 f p0, mr_z4 a12 (4 * f), mr_z4 a13 (4 * f), upd a14 f 0, a15, a16, a17, a18, a19, a20, a21, a22)) :
    wpX_openFrame post (pr, lv, fc, ou, yu, rm, mk, sc, md, rs, rn, pc, wc, a1, a2, a3, a4, a5, a6, a7, a8, a9, a10, a11, a12, a13, a14, a15, a16, a17, a18, a19, a20, a21, a22) p0 := by
  unfold wpX_openFrame
  dsimp only
  have e4 : (4 : Int32) * fc = nI (4 * f) := by rw [hf, ← pk_mul]; rfl
  have e : (4 : Int32) * fc + 4 = nI (4 * f + 4) := by rw [hf]; exact mr_ix4 f 4
  have ec : fc.toNatClampNeg = f := by rw [hf]; exact nI_clamp (by omega)
  have ei : vp_in fc 10 := by rw [hf]; exact pk_in f 10 h10
  have e1 : fc + 1 = nI g := by rw [hf, ← hg]; exact nI_1 f
  rw [ec]
  refine ⟨ei, nm_e ⟨ei, nm_e (nm_r e4 ⟨5, ?_⟩)⟩⟩
  refine mr_of27 f 4 0 hf h10 (by omega) (mr_of27 f 3 1 hf h10 (by omega) (mr_of27 f 2 2 hf h10 (by omega) (mr_of27 f 1 3 hf h10 (by omega) ?_)))
  unfold wX_openFrame_27
  rw [e, e1]
  exact br_t (nI_le (Nat.le_refl _) (by omega)) (nm_e H)
end
section
def mr_z3 (a : Nat → Int32) (n : Nat) : Nat → Int32 := upd (upd (upd a n 0) (n + 1) 0) (n + 2) 0
theorem mr_mk96 {pr lv fc ou yu rm mk sc md rs rn pc wc : Int32} {a1 a2 a3 a4 a5 a6 a7 a8 a9 a10 a11 a12 a13 a14 a15 a16 a17 a18 a19 a20 a21 a22 : Nat → Int32} {post : Int32 → St2 → Prop} (n i : Nat) (hi : i < 3)
    (H : wX_makeObject_96 post (nI 24) pr lv fc ou yu rm mk sc md rs rn pc wc n (nI (72 + i + 1)) a1 a2 a3 a4 a5 a6 a7 a8 a9 a10 a11 a12 a13 a14 a15 a16 a17 (upd a18 (72 + i) 0) (upd a19 (72 + i) 0) a20 a21 a22) :
    wX_makeObject_96 post (nI 24) pr lv fc ou yu rm mk sc md rs rn pc wc (n + 1) (nI (72 + i)) a1 a2 a3 a4 a5 a6 a7 a8 a9 a10 a11 a12 a13 a14 a15 a16 a17 a18 a19 a20 a21 a22 := by
  have e : (3 : Int32) * nI 24 + 3 = nI 75 := by decide
  unfold wX_makeObject_96
  rw [nI_clamp (show 72 + i < 2 ^ 31 by omega), e]
  exact pk_le 75 (72 + i) (fun z => absurd z (by omega)) (fun _ => ⟨pk_in (72 + i) 96 (by omega), nm_e ⟨pk_in (72 + i) 96 (by omega), nm_e (nm_r (nI_1 _) H)⟩⟩)
theorem mr_makeObject {pr lv fc ou yu rm mk sc md rs rn pc wc : Int32} {a1 a2 a3 a4 a5 a6 a7 a8 a9 a10 a11 a12 a13 a14 a15 a16 a17 a18 a19 a20 a21 a22 : Nat → Int32} {post : Int32 → St2 → Prop} {p0 : Int32} (f d e : Nat) (hf : fc - 1 = nI f) (h10 : f < 10) (hd : a14 f = nI d) (hd6 : d < 6) (he : 6 * f + d = e) (hou : ou = 0) (hyu : yu = 0)
    (H : post (-1) (pr, lv, fc, ou, 1, rm, mk, sc, md + 1, rs, rn, pc, wc, a1, a2, a3, a4, a5, a6, a7, a8, a9, a10, upd a11 f (a11 f + 1), a12, a13, upd a14 f (nI (d + 1)), upd a15 e ((2 : Int32).toInt8.toInt32), upd a16 e (nI 24), upd a17 24 p0.toInt8.toInt32, mr_z3 a18 72, mr_z3 a19 72, a20, a21, a22)) :
    wpX_makeObject post (pr, lv, fc, ou, yu, rm, mk, sc, md, rs, rn, pc, wc, a1, a2, a3, a4, a5, a6, a7, a8, a9, a10, a11, a12, a13, a14, a15, a16, a17, a18, a19, a20, a21, a22) p0 := by
  subst hou hyu
  refine br_t (by decide) (br_f (by decide) ?_)
  refine nm_r (show (24 : Int32) + 0 = nI 24 by decide) (nm_r (show (0 : Int32) + 1 = 1 by decide) (nm_e ⟨pk_in 24 32 (by omega), ?_⟩))
  rw [nI_clamp (show 24 < 2 ^ 31 by omega)]
  refine nm_e (nm_r (show (3 : Int32) * nI 24 = nI 72 by decide) ⟨4, ?_⟩)
  refine mr_mk96 3 0 (by omega) (mr_mk96 2 1 (by omega) (mr_mk96 1 2 (by omega) ?_))
  refine br_t (by decide) ?_
  refine mr_push f d e hf h10 hd hd6 he ?_
  refine mr_top hf ?_
  rw [nI_clamp (show f < 2 ^ 31 by omega)]
  exact ⟨pk_in f 10 h10, pk_in f 10 h10, nm_e H⟩
theorem mr_callH {pr lv fc ou yu rm mk sc md rs rn pc wc : Int32} {a1 a2 a3 a4 a5 a6 a7 a8 a9 a10 a11 a12 a13 a14 a15 a16 a17 a18 a19 a20 a21 a22 : Nat → Int32} {post : Int32 → St2 → Prop} (i k s : Nat) (hf : fc = nI 1) (hl : lv = 2) (hd : a14 0 = nI 2) (h15 : a15 0 = 2) (h16 : a16 0 = nI 24) (hk : a17 24 = nI k) (hk4 : k < 4) (hs : s < 4) (hi : i < 60) (h7 : a7 i = -1)
    (H : wX_call_97 post (nI 24) (a15 1) (a16 1) (a5 (4 * k + s)) pr lv fc ou yu rm mk sc md rs rn pc wc a1 a2 a3 a4 a5 a6 (upd a7 i (nI k)) (upd a8 i (a5 (4 * k + s)).toInt8.toInt32) a9 a10 a11 a12 a13 a14 a15 a16 a17 a18 a19 a20 a21 a22) :
    wpX_call post (pr, lv, fc, ou, yu, rm, mk, sc, md, rs, rn, pc, wc, a1, a2, a3, a4, a5, a6, a7, a8, a9, a10, a11, a12, a13, a14, a15, a16, a17, a18, a19, a20, a21, a22) (nI i) (nI s) := by
  have e0 : fc - 1 = nI 0 := by rw [hf]; decide
  have hkne : ∀ k, k < 4 → ¬ (-1 : Int32) = nI k := by decide
  unfold wpX_call
  dsimp only
  refine mr_sortAt 0 2 1 0 e0 (by omega) hd (by omega) rfl (by omega) ?_
  refine br_t h15 ?_
  refine mr_numberAt 0 2 1 0 e0 (by omega) hd (by omega) rfl (by omega) ?_
  refine mr_sortAt 0 2 0 1 e0 (by omega) hd (by omega) rfl (by omega) ?_
  refine mr_numberAt 0 2 0 1 e0 (by omega) hd (by omega) rfl (by omega) ?_
  rw [h16, nI_clamp (show 24 < 2 ^ 31 by omega)]
  refine ⟨pk_in 24 32 (by omega), nm_r hk ⟨pk_in i 60 hi, nm_e (br_f (by rw [hl]; decide) ⟨pk_in i 60 hi, ?_⟩)⟩⟩
  rw [nI_clamp (show i < 2 ^ 31 by omega), h7]
  refine br_f (hkne k hk4) ?_
  unfold wX_call_66
  rw [mr_ix4, nI_clamp (show 4 * k + s < 2 ^ 31 by omega), nI_clamp (show i < 2 ^ 31 by omega), mr_b k (by omega)]
  exact ⟨pk_in (4 * k + s) 16 (by omega), nm_e ⟨pk_in i 60 hi, nm_e ⟨pk_in i 60 hi, nm_e H⟩⟩⟩
theorem mr_callM {pr lv fc ou yu rm mk sc md rs rn pc wc : Int32} {a1 a2 a3 a4 a5 a6 a7 a8 a9 a10 a11 a12 a13 a14 a15 a16 a17 a18 a19 a20 a21 a22 : Nat → Int32} {post : Int32 → St2 → Prop} (i k s : Nat) (hf : fc = nI 1) (hl : lv = 2) (hd : a14 0 = nI 2) (h15 : a15 0 = 2) (h16 : a16 0 = nI 24) (hk : a17 24 = nI k) (hk4 : k < 4) (hs : s < 4) (hi : i < 60) (h7 : a7 i = -1)
    (h5 : a5 (4 * k + s) = -1)
    (H : post 6 (pr, lv, fc, ou, yu, rm, mk, sc, md, rs, rn, pc, wc, a1, a2, a3, a4, a5, a6, upd a7 i (nI k), upd a8 i (a5 (4 * k + s)).toInt8.toInt32, a9, a10, a11, a12, a13, a14, a15, a16, a17, a18, a19, a20, a21, a22)) :
    wpX_call post (pr, lv, fc, ou, yu, rm, mk, sc, md, rs, rn, pc, wc, a1, a2, a3, a4, a5, a6, a7, a8, a9, a10, a11, a12, a13, a14, a15, a16, a17, a18, a19, a20, a21, a22) (nI i) (nI s) :=
  mr_callH i k s hf hl hd h15 h16 hk hk4 hs hi h7 (br_f (by rw [h5]; decide) H)
theorem mr_callF {pr lv fc ou yu rm mk sc md rs rn pc wc : Int32} {a1 a2 a3 a4 a5 a6 a7 a8 a9 a10 a11 a12 a13 a14 a15 a16 a17 a18 a19 a20 a21 a22 : Nat → Int32} {post : Int32 → St2 → Prop} (i k s : Nat) (hf : fc = nI 1) (hl : lv = 2) (hd : a14 0 = nI 2) (h15 : a15 0 = 2) (h16 : a16 0 = nI 24) (hk : a17 24 = nI k) (hk4 : k < 4) (hs : s < 4) (hi : i < 60) (h7 : a7 i = -1)
    (h5 : a5 (4 * k + s) = nI 20)
    (H : post (-1) (pr, lv, nI 2, ou, yu, rm, mk, sc, md, rs, rn, pc, wc, a1, a2, a3, a4, a5, a6, upd a7 i (nI k), upd a8 i (a5 (4 * k + s)).toInt8.toInt32, a9, a10, upd (upd a11 0 (a11 0 + 1)) 1 (nI 20), upd (upd (mr_z4 a12 4) 4 ((2 : Int32).toInt8.toInt32)) 5 (a15 1).toInt8.toInt32, upd (upd (mr_z4 a13 4) 4 (nI 24)) 5 (a16 1), upd (upd a14 0 (nI 0)) 1 0, a15, a16, a17, a18, a19, a20, a21, a22)) :
    wpX_call post (pr, lv, fc, ou, yu, rm, mk, sc, md, rs, rn, pc, wc, a1, a2, a3, a4, a5, a6, a7, a8, a9, a10, a11, a12, a13, a14, a15, a16, a17, a18, a19, a20, a21, a22) (nI i) (nI s) := by
  have e0 : fc - 1 = nI 0 := by rw [hf]; decide
  refine mr_callH i k s hf hl hd h15 h16 hk hk4 hs hi h7 (br_t (by rw [h5]; decide) (br_f (by rw [hf]; decide) ?_))
  refine mr_drop 0 2 2 0 e0 (by omega) hd (by omega) rfl (by omega) ?_
  refine mr_top e0 ?_
  rw [nI_clamp (show 0 < 2 ^ 31 by omega), h5]
  refine ⟨pk_in 0 10 (by omega), pk_in 0 10 (by omega), nm_e ?_⟩
  refine mr_openFrame 1 2 hf (by omega) rfl ?_
  refine mr_setLocal 1 0 4 (by decide) (by omega) rfl (by omega) rfl ?_
  refine mr_setLocal 1 1 5 (by decide) (by omega) rfl (by omega) rfl ?_
  rw [h5] at H
  exact H
end
section
theorem mr_oneNew {pr lv fc ou yu rm mk sc md rs rn pc wc : Int32} {a1 a2 a3 a4 a5 a6 a7 a8 a9 a10 a11 a12 a13 a14 a15 a16 a17 a18 a19 a20 a21 a22 : Nat → Int32} {post : Int32 → St2 → Prop} {p0 p2 : Int32} (f d e : Nat) (hf : fc - 1 = nI f) (h10 : f < 10) (hd : a14 f = nI d) (hd6 : d < 6) (he : 6 * f + d = e) (hou : ou = 0) (hyu : yu = 0)
    (H : post (-1) (pr, lv, fc, ou, 1, rm, mk, sc, md + 1, rs, rn, pc, wc, a1, a2, a3, a4, a5, a6, a7, a8, a9, a10, upd a11 f (a11 f + 1), a12, a13, upd a14 f (nI (d + 1)), upd a15 e ((2 : Int32).toInt8.toInt32), upd a16 e (nI 24), upd a17 24 p2.toInt8.toInt32, mr_z3 a18 72, mr_z3 a19 72, a20, a21, a22)) :
    wpX_workOne post (pr, lv, fc, ou, yu, rm, mk, sc, md, rs, rn, pc, wc, a1, a2, a3, a4, a5, a6, a7, a8, a9, a10, a11, a12, a13, a14, a15, a16, a17, a18, a19, a20, a21, a22) p0 15 p2 :=
  br_t rfl (mr_makeObject f d e hf h10 hd hd6 he hou hyu H)
theorem mr_oneLoad {pr lv fc ou yu rm mk sc md rs rn pc wc : Int32} {a1 a2 a3 a4 a5 a6 a7 a8 a9 a10 a11 a12 a13 a14 a15 a16 a17 a18 a19 a20 a21 a22 : Nat → Int32} {post : Int32 → St2 → Prop} {p0 p2 : Int32} (f l d g e : Nat) (hf : fc - 1 = nI f) (h10 : f < 10) (hp : p2 = nI l) (hl : l < 4) (hd : a14 f = nI d) (hd6 : d < 6) (hg : 4 * f + l = g) (he : 6 * f + d = e)
    (H : post (-1) (pr, lv, fc, ou, yu, rm, mk, sc, md, rs, rn, pc, wc, a1, a2, a3, a4, a5, a6, a7, a8, a9, a10, upd a11 f (p0 + 1), a12, a13, upd a14 f (nI (d + 1)), upd a15 e (a12 g).toInt8.toInt32, upd a16 e (a13 g), a17, a18, a19, a20, a21, a22)) :
    wpX_workOne post (pr, lv, fc, ou, yu, rm, mk, sc, md, rs, rn, pc, wc, a1, a2, a3, a4, a5, a6, a7, a8, a9, a10, a11, a12, a13, a14, a15, a16, a17, a18, a19, a20, a21, a22) p0 3 p2 := by
  refine br_f (by decide) (br_f (by decide) (br_f (by decide) (br_f (by decide) (br_f (by decide) (br_f (by decide) (br_t (by decide) (br_f (by decide) (br_f (by decide) ?_))))))))
  refine mr_top hf ?_
  refine br_f (by decide) ?_
  unfold wX_workOne_176
  rw [nI_clamp (show f < 2 ^ 31 by omega)]
  refine ⟨pk_in f 10 h10, nm_e ?_⟩
  refine br_f (by decide) (br_f (by decide) (br_t rfl ?_))
  exact (mr_pushLocal f l d g e hf h10 hp hl hd hd6 hg he H)
theorem mr_oneStop {pr lv fc ou yu rm mk sc md rs rn pc wc : Int32} {a1 a2 a3 a4 a5 a6 a7 a8 a9 a10 a11 a12 a13 a14 a15 a16 a17 a18 a19 a20 a21 a22 : Nat → Int32} {post : Int32 → St2 → Prop} {p0 p2 : Int32} (H : post 0 (pr, lv, fc, ou, yu, rm, mk, sc, md, rs, rn, pc, wc, a1, a2, a3, a4, a5, a6, a7, a8, a9, a10, a11, a12, a13, a14, a15, a16, a17, a18, a19, a20, a21, a22)) : wpX_workOne post (pr, lv, fc, ou, yu, rm, mk, sc, md, rs, rn, pc, wc, a1, a2, a3, a4, a5, a6, a7, a8, a9, a10, a11, a12, a13, a14, a15, a16, a17, a18, a19, a20, a21, a22) p0 0 p2 :=
  br_f (by decide) (br_f (by decide) (br_f (by decide) (br_f (by decide) (br_f (by decide) (br_t rfl H)))))
theorem mr_oneOut {pr lv fc ou yu rm mk sc md rs rn pc wc : Int32} {a1 a2 a3 a4 a5 a6 a7 a8 a9 a10 a11 a12 a13 a14 a15 a16 a17 a18 a19 a20 a21 a22 : Nat → Int32} {post : Int32 → St2 → Prop} {p0 p2 : Int32} (f d e q : Nat) (hf : fc - 1 = nI f) (h10 : f < 10) (hd : a14 f = nI (d + 1)) (hd6 : d < 6) (he : 6 * f + d = e) (h15 : a15 e = 1) (hq : pc = nI q) (h20 : q < 20)
    (H : post (-1) (pr, lv, fc, ou, yu, rm, mk, sc, md, rs, rn, nI (q + 1), wc, a1, a2, a3, a4, a5, a6, a7, a8, a9, a10, upd a11 f (p0 + 1), a12, a13, upd a14 f (nI d), a15, a16, a17, a18, a19, a20, a21, upd a22 q (a16 e))) :
    wpX_workOne post (pr, lv, fc, ou, yu, rm, mk, sc, md, rs, rn, pc, wc, a1, a2, a3, a4, a5, a6, a7, a8, a9, a10, a11, a12, a13, a14, a15, a16, a17, a18, a19, a20, a21, a22) p0 23 p2 := by
  refine br_f (by decide) (br_f (by decide) (br_f (by decide) (br_f (by decide) (br_f (by decide) (br_f (by decide) (br_f (by decide) (br_t (by decide) (br_f (by decide) (br_t rfl ?_)))))))))
  unfold wX_workOne_91
  refine mr_sortAt f (d + 1) 0 e hf h10 hd (by omega) rfl (by omega) ?_
  refine br_t h15 ?_
  refine mr_numberAt f (d + 1) 0 e hf h10 hd (by omega) rfl (by omega) ?_
  refine mr_drop f (d + 1) 1 d hf h10 hd (by omega) rfl rfl ?_
  refine mr_top hf ?_
  refine br_f (by decide) ?_
  unfold wX_workOne_137 wX_workOne_140
  rw [nI_clamp (show f < 2 ^ 31 by omega)]
  exact ⟨pk_in f 10 h10, nm_e (br_t rfl (mr_print q hq h20 H))⟩
theorem mr_oneCallM {pr lv fc ou yu rm mk sc md rs rn pc wc : Int32} {a1 a2 a3 a4 a5 a6 a7 a8 a9 a10 a11 a12 a13 a14 a15 a16 a17 a18 a19 a20 a21 a22 : Nat → Int32} {post : Int32 → St2 → Prop} (i k s : Nat) (hf : fc = nI 1) (hl : lv = 2) (hd : a14 0 = nI 2) (h15 : a15 0 = 2) (h16 : a16 0 = nI 24) (hk : a17 24 = nI k) (hk4 : k < 4) (hs : s < 4) (hi : i < 60) (h7 : a7 i = -1)
    (h5 : a5 (4 * k + s) = -1)
    (H : post 6 (pr, lv, fc, ou, yu, rm, mk, sc, md, rs, rn, pc, wc, a1, a2, a3, a4, a5, a6, upd a7 i (nI k), upd a8 i (a5 (4 * k + s)).toInt8.toInt32, a9, a10, a11, a12, a13, a14, a15, a16, a17, a18, a19, a20, a21, a22)) :
    wpX_workOne post (pr, lv, fc, ou, yu, rm, mk, sc, md, rs, rn, pc, wc, a1, a2, a3, a4, a5, a6, a7, a8, a9, a10, a11, a12, a13, a14, a15, a16, a17, a18, a19, a20, a21, a22) (nI i) 19 (nI s) :=
  br_f (by decide) (br_f (by decide) (br_f (by decide) (br_t rfl (mr_callM i k s hf hl hd h15 h16 hk hk4 hs hi h7 h5 H))))
theorem mr_oneCallF {pr lv fc ou yu rm mk sc md rs rn pc wc : Int32} {a1 a2 a3 a4 a5 a6 a7 a8 a9 a10 a11 a12 a13 a14 a15 a16 a17 a18 a19 a20 a21 a22 : Nat → Int32} {post : Int32 → St2 → Prop} (i k s : Nat) (hf : fc = nI 1) (hl : lv = 2) (hd : a14 0 = nI 2) (h15 : a15 0 = 2) (h16 : a16 0 = nI 24) (hk : a17 24 = nI k) (hk4 : k < 4) (hs : s < 4) (hi : i < 60) (h7 : a7 i = -1)
    (h5 : a5 (4 * k + s) = nI 20)
    (H : post (-1) (pr, lv, nI 2, ou, yu, rm, mk, sc, md, rs, rn, pc, wc, a1, a2, a3, a4, a5, a6, upd a7 i (nI k), upd a8 i (a5 (4 * k + s)).toInt8.toInt32, a9, a10, upd (upd a11 0 (a11 0 + 1)) 1 (nI 20), upd (upd (mr_z4 a12 4) 4 ((2 : Int32).toInt8.toInt32)) 5 (a15 1).toInt8.toInt32, upd (upd (mr_z4 a13 4) 4 (nI 24)) 5 (a16 1), upd (upd a14 0 (nI 0)) 1 0, a15, a16, a17, a18, a19, a20, a21, a22)) :
    wpX_workOne post (pr, lv, fc, ou, yu, rm, mk, sc, md, rs, rn, pc, wc, a1, a2, a3, a4, a5, a6, a7, a8, a9, a10, a11, a12, a13, a14, a15, a16, a17, a18, a19, a20, a21, a22) (nI i) 19 (nI s) :=
  br_f (by decide) (br_f (by decide) (br_f (by decide) (br_t rfl (mr_callF i k s hf hl hd h15 h16 hk hk4 hs hi h7 h5 H))))
/-- what an instruction takes and puts: the five that the law uses -/
def mr_tp (O : Int32) (t q : Nat) : Prop := (O = 15 ∧ t = 0 ∧ q = 1) ∨ (O = 3 ∧ t = 0 ∧ q = 1) ∨ (O = 19 ∧ t = 2 ∧ q = 0) ∨ (O = 23 ∧ t = 1 ∧ q = 0) ∨ (O = 0 ∧ t = 0 ∧ q = 0)
theorem mr_taken {pr lv fc ou yu rm mk sc md rs rn pc wc : Int32} {a1 a2 a3 a4 a5 a6 a7 a8 a9 a10 a11 a12 a13 a14 a15 a16 a17 a18 a19 a20 a21 a22 : Nat → Int32} {Q : Int32 → Prop} {O : Int32} {t q : Nat} (h : mr_tp O t q) (H : Q (nI t)) : wpX_takenBy Q (pr, lv, fc, ou, yu, rm, mk, sc, md, rs, rn, pc, wc, a1, a2, a3, a4, a5, a6, a7, a8, a9, a10, a11, a12, a13, a14, a15, a16, a17, a18, a19, a20, a21, a22) O := by
  rcases h with ⟨rfl, rfl, rfl⟩ | ⟨rfl, rfl, rfl⟩ | ⟨rfl, rfl, rfl⟩ | ⟨rfl, rfl, rfl⟩ | ⟨rfl, rfl, rfl⟩ <;>
  · unfold wpX_takenBy wX_takenBy_18
    dsimp only
    repeat first | exact H | refine br_t (by decide) ?_ | refine br_f (by decide) ?_
theorem mr_put {pr lv fc ou yu rm mk sc md rs rn pc wc : Int32} {a1 a2 a3 a4 a5 a6 a7 a8 a9 a10 a11 a12 a13 a14 a15 a16 a17 a18 a19 a20 a21 a22 : Nat → Int32} {Q : Int32 → Prop} {O : Int32} {t q : Nat} (h : mr_tp O t q) (H : Q (nI q)) : wpX_putBy Q (pr, lv, fc, ou, yu, rm, mk, sc, md, rs, rn, pc, wc, a1, a2, a3, a4, a5, a6, a7, a8, a9, a10, a11, a12, a13, a14, a15, a16, a17, a18, a19, a20, a21, a22) O := by
  rcases h with ⟨rfl, rfl, rfl⟩ | ⟨rfl, rfl, rfl⟩ | ⟨rfl, rfl, rfl⟩ | ⟨rfl, rfl, rfl⟩ | ⟨rfl, rfl, rfl⟩ <;>
  · unfold wpX_putBy wX_putBy_43
    dsimp only
    repeat first | exact H | refine br_t (by decide) ?_ | refine br_f (by decide) ?_
theorem mr_work69 {pr lv fc ou yu rm mk sc md rs rn pc wc : Int32} {a1 a2 a3 a4 a5 a6 a7 a8 a9 a10 a11 a12 a13 a14 a15 a16 a17 a18 a19 a20 a21 a22 : Nat → Int32} {post : Int32 → St2 → Prop} (f i d t q n : Nat) (O : Int32) (h : mr_tp O t q) (hf : fc - 1 = nI f) (h10 : f < 10) (hi : a11 f = nI i) (h60 : i < 60) (hn : sc = nI n) (hn3 : n < 300) (hl : lv = 2) (h6 : a6 i = 0)
    (H : wX_work_69 post (nI f) (nI i) pr lv fc ou yu rm mk sc md rs rn pc wc a1 a2 a3 a4 a5 a6 a7 a8 a9 a10 a11 a12 a13 a14 a15 a16 a17 a18 a19 a20 a21 a22) : wpX_work post (pr, lv, fc, ou, yu, rm, mk, sc, md, rs, rn, pc, wc, a1, a2, a3, a4, a5, a6, a7, a8, a9, a10, a11, a12, a13, a14, a15, a16, a17, a18, a19, a20, a21, a22) := by
  have hne : ¬ sc = 300 := by rw [hn]; exact fun z => absurd ((nI_eq (b := 300) (by omega) (by omega)).mp z) (by omega)
  have hi59 : nI i ≤ 59 := nI_le (b := 59) (by omega) (by omega)
  unfold wpX_work
  refine mr_top hf ?_
  rw [nI_clamp (show f < 2 ^ 31 by omega), hi]
  refine ⟨pk_in f 10 h10, nm_e (br_f (nI_pos (by omega)) (br_t hi59 (br_f hne (br_t hl ⟨pk_in i 60 h60, ?_⟩))))⟩
  rw [nI_clamp (show i < 2 ^ 31 by omega), h6]
  exact br_t rfl H
theorem mr_workC {pr lv fc ou yu rm mk sc md rs rn pc wc : Int32} {a1 a2 a3 a4 a5 a6 a7 a8 a9 a10 a11 a12 a13 a14 a15 a16 a17 a18 a19 a20 a21 a22 : Nat → Int32} {post : Int32 → St2 → Prop} (f i d t q n : Nat) (O : Int32) (h : mr_tp O t q) (hf : fc - 1 = nI f) (h10 : f < 10) (hi : a11 f = nI i) (h60 : i < 60) (hn : sc = nI n) (hn3 : n < 300) (hl : lv = 2) (h6 : a6 i = 0) (ho : a1 i = O) (N : Int32) (ha2 : a2 i = N) (hd : a14 f = nI d) (hd7 : d < 7) (htd : t ≤ d) (hq : d - t + q ≤ 6)
    {r : Int32} {pr' lv' fc' ou' yu' rm' mk' sc' md' rs' rn' pc' wc' : Int32} {a1' a2' a3' a4' a5' a6' a7' a8' a9' a10' a11' a12' a13' a14' a15' a16' a17' a18' a19' a20' a21' a22' : Nat → Int32} (hr : r = -1 ∨ r = 0) (hn' : sc' = nI n)
    (Hone : ∀ Q : Int32 → St2 → Prop, Q r (pr', lv', fc', ou', yu', rm', mk', sc', md', rs', rn', pc', wc', a1', a2', a3', a4', a5', a6', a7', a8', a9', a10', a11', a12', a13', a14', a15', a16', a17', a18', a19', a20', a21', a22') → wpX_workOne Q (pr, lv, fc, ou, yu, rm, mk, sc, md, rs, rn, pc, wc, a1, a2, a3, a4, a5, a6, a7, a8, a9, a10, a11, a12, a13, a14, a15, a16, a17, a18, a19, a20, a21, a22) (nI i) O N)
    (H : post r (pr', lv', fc', ou', yu', rm', mk', nI (n + 1), md', rs', rn', pc', wc', a1', a2', a3', a4', a5', a6', a7', a8', a9', a10', a11', a12', a13', a14', a15', a16', a17', a18', a19', a20', a21', a22')) : wpX_work post (pr, lv, fc, ou, yu, rm, mk, sc, md, rs, rn, pc, wc, a1, a2, a3, a4, a5, a6, a7, a8, a9, a10, a11, a12, a13, a14, a15, a16, a17, a18, a19, a20, a21, a22) := by
  refine mr_work69 f i d t q n O h hf h10 hi h60 hn hn3 hl h6 ?_
  have hlt : ¬ nI d < nI t := nI_nlt htd (by omega)
  have hle : nI d - nI t + nI q ≤ 6 := by rw [pk_sub htd, nI_add]; exact nI_le (b := 6) hq (by omega)
  unfold wX_work_69
  rw [nI_clamp (show f < 2 ^ 31 by omega), nI_clamp (show i < 2 ^ 31 by omega), hd, ha2]
  refine ⟨pk_in i 60 h60, nm_r ho (mr_taken h ⟨pk_in f 10 h10, br_f hlt ⟨pk_in f 10 h10, mr_put h (br_t hle ⟨pk_in i 60 h60, Hone _ ?_⟩)⟩⟩)⟩
  rcases hr with rfl | rfl
  · exact br_t rfl (nm_r (by rw [hn', nI_1]) H)
  · exact br_f (by decide) (br_t rfl (nm_r (by rw [hn', nI_1]) H))
theorem mr_work6 {pr lv fc ou yu rm mk sc md rs rn pc wc : Int32} {a1 a2 a3 a4 a5 a6 a7 a8 a9 a10 a11 a12 a13 a14 a15 a16 a17 a18 a19 a20 a21 a22 : Nat → Int32} {post : Int32 → St2 → Prop} (f i d t q n : Nat) (O : Int32) (h : mr_tp O t q) (hf : fc - 1 = nI f) (h10 : f < 10) (hi : a11 f = nI i) (h60 : i < 60) (hn : sc = nI n) (hn3 : n < 300) (hl : lv = 2) (h6 : a6 i = 0) (ho : a1 i = O) (N : Int32) (ha2 : a2 i = N) (hd : a14 f = nI d) (hd7 : d < 7) (htd : t ≤ d) (hq : d - t + q ≤ 6)
    {pr' lv' fc' ou' yu' rm' mk' sc' md' rs' rn' pc' wc' : Int32} {a1' a2' a3' a4' a5' a6' a7' a8' a9' a10' a11' a12' a13' a14' a15' a16' a17' a18' a19' a20' a21' a22' : Nat → Int32}
    (Hone : ∀ Q : Int32 → St2 → Prop, Q 6 (pr', lv', fc', ou', yu', rm', mk', sc', md', rs', rn', pc', wc', a1', a2', a3', a4', a5', a6', a7', a8', a9', a10', a11', a12', a13', a14', a15', a16', a17', a18', a19', a20', a21', a22') → wpX_workOne Q (pr, lv, fc, ou, yu, rm, mk, sc, md, rs, rn, pc, wc, a1, a2, a3, a4, a5, a6, a7, a8, a9, a10, a11, a12, a13, a14, a15, a16, a17, a18, a19, a20, a21, a22) (nI i) O N)
    (H : post 6 (pr', lv', fc', ou', yu', rm', mk', sc', md', rs', rn', pc', wc', a1', a2', a3', a4', a5', a6', a7', a8', a9', a10', a11', a12', a13', a14', a15', a16', a17', a18', a19', a20', a21', a22')) : wpX_work post (pr, lv, fc, ou, yu, rm, mk, sc, md, rs, rn, pc, wc, a1, a2, a3, a4, a5, a6, a7, a8, a9, a10, a11, a12, a13, a14, a15, a16, a17, a18, a19, a20, a21, a22) := by
  refine mr_work69 f i d t q n O h hf h10 hi h60 hn hn3 hl h6 ?_
  have hlt : ¬ nI d < nI t := nI_nlt htd (by omega)
  have hle : nI d - nI t + nI q ≤ 6 := by rw [pk_sub htd, nI_add]; exact nI_le (b := 6) hq (by omega)
  unfold wX_work_69
  rw [nI_clamp (show f < 2 ^ 31 by omega), nI_clamp (show i < 2 ^ 31 by omega), hd, ha2]
  refine ⟨pk_in i 60 h60, nm_r ho (mr_taken h ⟨pk_in f 10 h10, br_f hlt ⟨pk_in f 10 h10, mr_put h (br_t hle ⟨pk_in i 60 h60, Hone _ ?_⟩)⟩⟩)⟩
  exact br_f (by decide) (br_f (by decide) H)
end
section
theorem mr_fill {f s : Nat → Int32} {i k : Nat} {x : Int32} (hk : k = i) (h : ∀ j, j < i → s j = f j) (hx : x = f i) : ∀ j, j < i + 1 → upd s k x j = f j := by
  intro j hj
  rw [hk]
  by_cases e : j = i
  · rw [e, pk_us, hx]
  · rw [pk_un e]
    exact h j (by omega)
theorem mr_i204 {pr lv fc ou yu rm mk sc md rs rn pc wc : Int32} {a1 a2 a3 a4 a5 a6 a7 a8 a9 a10 a11 a12 a13 a14 a15 a16 a17 a18 a19 a20 a21 a22 : Nat → Int32} {post : St2 → Prop} {mc ms kc ks : Nat} (H : ∀ b, (∀ j, j < 16 → b j = -1) → post (pr, lv, fc, ou, yu, rm, mk, sc, md, rs, rn, pc, wc, a1, a2, a3, b, a5, a6, a7, a8, a9, a10, a11, a12, a13, a14, a15, a16, a17, a18, a19, a20, a21, a22)) : ∃ n, wX_init_204 post mc ms kc ks pr lv fc ou yu rm mk sc md rs rn pc wc n 0 a1 a2 a3 a4 a5 a6 a7 a8 a9 a10 a11 a12 a13 a14 a15 a16 a17 a18 a19 a20 a21 a22 :=
  pk_loop (fun n i b => wX_init_204 post mc ms kc ks pr lv fc ou yu rm mk sc md rs rn pc wc n (nI i) a1 a2 a3 b a5 a6 a7 a8 a9 a10 a11 a12 a13 a14 a15 a16 a17 a18 a19 a20 a21 a22) (fun i b => ∀ j, j < i → b j = -1) 16 0 a4 (by omega) (fun j hj => absurd hj (by omega))
    (fun n b h => pk_le 16 16 (fun _ => H b h) (fun z => absurd z (by omega)))
    (fun n i b hi h hw => pk_le 16 i (fun z => absurd z (by omega)) (fun _ => ⟨pk_in i 16 hi, nm_e (nm_r (nI_1 i) (hw _ (mr_fill (f := fun _ => -1) (nI_clamp (by omega)) h rfl)))⟩))
theorem mr_i184 {pr lv fc ou yu rm mk sc md rs rn pc wc : Int32} {a1 a2 a3 a4 a5 a6 a7 a8 a9 a10 a11 a12 a13 a14 a15 a16 a17 a18 a19 a20 a21 a22 : Nat → Int32} {post : St2 → Prop} {mc ms kc ks : Nat} (H : ∀ b3 b4, (∀ j, j < 4 → b3 j = -1) → (∀ j, j < 16 → b4 j = -1) → post (pr, lv, fc, ou, yu, rm, mk, sc, md, rs, rn, pc, wc, a1, a2, b3, b4, a5, a6, a7, a8, a9, a10, a11, a12, a13, a14, a15, a16, a17, a18, a19, a20, a21, a22)) : ∃ n, wX_init_184 post mc ms kc ks pr lv fc ou yu rm mk sc md rs rn pc wc n 0 a1 a2 a3 a4 a5 a6 a7 a8 a9 a10 a11 a12 a13 a14 a15 a16 a17 a18 a19 a20 a21 a22 :=
  pk_loop (fun n i b => wX_init_184 post mc ms kc ks pr lv fc ou yu rm mk sc md rs rn pc wc n (nI i) a1 a2 b a4 a5 a6 a7 a8 a9 a10 a11 a12 a13 a14 a15 a16 a17 a18 a19 a20 a21 a22) (fun i b => ∀ j, j < i → b j = -1) 4 0 a3 (by omega) (fun j hj => absurd hj (by omega))
    (fun n b h => pk_le 4 4 (fun _ => mr_i204 (fun b4 h4 => H b b4 h h4)) (fun z => absurd z (by omega)))
    (fun n i b hi h hw => pk_le 4 i (fun z => absurd z (by omega)) (fun _ => ⟨pk_in i 4 hi, nm_e (nm_r (nI_1 i) (hw _ (mr_fill (f := fun _ => -1) (nI_clamp (by omega)) h rfl)))⟩))
theorem mr_init {post : St2 → Prop} (H : ∀ b3 b4 : Nat → Int32, (∀ j, j < 4 → b3 j = -1) → (∀ j, j < 16 → b4 j = -1) →
    post (0, 2, 0, 0, 0, 0, 0, 0, 0, 0, 0, 0, 0, fun _ => 0, fun _ => 0, b3, b4, fun _ => 0, fun _ => 0, fun _ => 0, fun _ => 0, fun _ => 0, fun _ => 0, fun _ => 0, fun _ => 0, fun _ => 0, fun _ => 0, fun _ => 0, fun _ => 0, fun _ => 0, fun _ => 0, fun _ => 0, fun _ => 0, fun _ => 0, fun _ => 0)) :
    wpX_init post 22 872 (0, 0, 0, 0, 0, 0, 0, 0, 0, 0, 0, 0, 0) := by
  unfold wpX_init
  repeat refine ⟨by decide, ?_⟩
  exact mr_i184 H
theorem mr_u : ∀ w, w < 4 → ¬ nI w - 1 < -1 ∧ nI w - 1 < 3 ∧ (nI w - 1).toInt8.toInt32 = nI w - 1 := by decide
theorem mr_above {pr lv fc ou yu rm mk sc md rs rn pc wc : Int32} {a1 a2 a3 a4 a5 a6 a7 a8 a9 a10 a11 a12 a13 a14 a15 a16 a17 a18 a19 a20 a21 a22 : Nat → Int32} {post : Int32 → St2 → Prop} (w : Nat) (hw : w < 4) (H : post 1 (0, lv, fc, ou, yu, rm, mk, sc, md, rs, rn, pc, wc, a1, a2, upd a3 3 (nI w - 1), a4, a5, a6, a7, a8, a9, a10, a11, a12, a13, a14, a15, a16, a17, a18, a19, a20, a21, a22)) : wpX_above post (pr, lv, fc, ou, yu, rm, mk, sc, md, rs, rn, pc, wc, a1, a2, a3, a4, a5, a6, a7, a8, a9, a10, a11, a12, a13, a14, a15, a16, a17, a18, a19, a20, a21, a22) 3 (nI w - 1) := by
  obtain ⟨u1, u2, u3⟩ := mr_u w hw
  refine br_f (by decide) (br_f (by decide) (br_f u1 (br_t u2 ⟨pk_in 3 4 (by omega), ?_⟩)))
  rw [u3]
  exact nm_e H
theorem mr_method {pr lv fc ou yu rm mk sc md rs rn pc wc : Int32} {a1 a2 a3 a4 a5 a6 a7 a8 a9 a10 a11 a12 a13 a14 a15 a16 a17 a18 a19 a20 a21 a22 : Nat → Int32} {post : Int32 → St2 → Prop} (s : Nat) (hs : s < 4) (H : post 1 (0, lv, fc, ou, yu, rm, mk, sc, md, rs, rn, pc, wc, a1, a2, a3, upd a4 (4 + s) 20, a5, a6, a7, a8, a9, a10, a11, a12, a13, a14, a15, a16, a17, a18, a19, a20, a21, a22)) : wpX_method post (pr, lv, fc, ou, yu, rm, mk, sc, md, rs, rn, pc, wc, a1, a2, a3, a4, a5, a6, a7, a8, a9, a10, a11, a12, a13, a14, a15, a16, a17, a18, a19, a20, a21, a22) 1 (nI s) 20 := by
  have e : (4 : Int32) * 1 + nI s = nI (4 + s) := mr_ix4 1 s
  have e2 : (20 : Int32).toInt8.toInt32 = 20 := by decide
  have n1 : ¬ (3 : Int32) < nI s := nI_nlt (a := 3) (by omega) (by omega)
  unfold wpX_method
  dsimp only
  rw [e, e2, nI_clamp (show 4 + s < 2 ^ 31 by omega)]
  exact br_f (by decide) (br_f (by decide) (br_f (nI_pos (by omega)) (br_f n1 (br_f (by decide) (br_t (by decide) ⟨pk_in (4 + s) 16 (by omega), nm_e H⟩)))))
theorem mr_code118 {pr lv fc ou yu rm mk sc md rs rn pc wc : Int32} {a1 a2 a3 a4 a5 a6 a7 a8 a9 a10 a11 a12 a13 a14 a15 a16 a17 a18 a19 a20 a21 a22 : Nat → Int32} {post : Int32 → St2 → Prop} {o p : Int32} (i : Nat) (hi : i < 60) (ho : o.toInt8.toInt32 = o)
    (H : post 1 (0, lv, fc, ou, yu, rm, mk, sc, md, rs, rn, pc, wc, upd a1 i o, upd a2 i p, a3, a4, a5, a6, a7, a8, a9, a10, a11, a12, a13, a14, a15, a16, a17, a18, a19, a20, a21, a22)) : wX_code_118 post (nI i) o p pr lv fc ou yu rm mk sc md rs rn pc wc a1 a2 a3 a4 a5 a6 a7 a8 a9 a10 a11 a12 a13 a14 a15 a16 a17 a18 a19 a20 a21 a22 := by
  unfold wX_code_118
  rw [nI_clamp (show i < 2 ^ 31 by omega), ho]
  exact ⟨pk_in i 60 hi, nm_e ⟨pk_in i 60 hi, nm_e H⟩⟩
theorem mr_code {pr lv fc ou yu rm mk sc md rs rn pc wc : Int32} {a1 a2 a3 a4 a5 a6 a7 a8 a9 a10 a11 a12 a13 a14 a15 a16 a17 a18 a19 a20 a21 a22 : Nat → Int32} {post : Int32 → St2 → Prop} (o : Int32) (i m : Nat) (hi : i < 60) (hm : m < 4) (ho : o = 3 ∨ o = 15 ∨ o = 19 ∨ o = 23)
    (H : post 1 (0, lv, fc, ou, yu, rm, mk, sc, md, rs, rn, pc, wc, upd a1 i o, upd a2 i (nI m), a3, a4, a5, a6, a7, a8, a9, a10, a11, a12, a13, a14, a15, a16, a17, a18, a19, a20, a21, a22)) : wpX_code post (pr, lv, fc, ou, yu, rm, mk, sc, md, rs, rn, pc, wc, a1, a2, a3, a4, a5, a6, a7, a8, a9, a10, a11, a12, a13, a14, a15, a16, a17, a18, a19, a20, a21, a22) (nI i) o (nI m) := by
  have n1 : ¬ (59 : Int32) < nI i := nI_nlt (a := 59) (by omega) (by omega)
  have n2 : ¬ (3 : Int32) < nI m := nI_nlt (a := 3) (by omega) (by omega)
  have n0 : ¬ nI m < 0 := nI_pos (by omega)
  have q : wX_code_102 post (nI i) o (nI m) 0 pr lv fc ou yu rm mk sc md rs rn pc wc a1 a2 a3 a4 a5 a6 a7 a8 a9 a10 a11 a12 a13 a14 a15 a16 a17 a18 a19 a20 a21 a22 := br_t rfl (mr_code118 i hi (by rcases ho with rfl | rfl | rfl | rfl <;> decide) H)
  have q4 : o ≠ 16 → o ≠ 17 → wX_code_62 post (nI i) o (nI m) pr lv fc ou yu rm mk sc md rs rn pc wc a1 a2 a3 a4 a5 a6 a7 a8 a9 a10 a11 a12 a13 a14 a15 a16 a17 a18 a19 a20 a21 a22 := fun z1 z2 => br_f z1 (br_f z2 (br_f (by decide) (br_f n0 (br_f n2 q))))
  refine br_f (nI_pos (by omega)) (br_f n1 ?_)
  rcases ho with rfl | rfl | rfl | rfl
  · exact br_f (by decide) (br_t (by decide) (br_t rfl (q4 (by decide) (by decide))))
  · exact br_f (by decide) (br_t (by decide) (br_f (by decide) (br_f (by decide) (br_t rfl (q4 (by decide) (by decide))))))
  · exact br_f (by decide) (br_t (by decide) (br_f (by decide) (br_f (by decide) (br_f (by decide) (br_f (by decide) (br_t rfl (q4 (by decide) (by decide))))))))
  · exact br_f (by decide) (br_t (by decide) (br_f (by decide) (br_f (by decide) (br_f (by decide) (br_f (by decide) (br_f (by decide) (br_f (by decide) (br_f (by decide) (br_f (by decide) (br_f (by decide) (br_t rfl q)))))))))))
end
section
/-- the table of starts that prepare makes -/
def mr_R (s w i : Nat) : Int32 := if i = 4 + s ∨ (i = 12 + s ∧ w = 2) then 20 else -1
theorem mr_R1 {s w i : Nat} (h : i = 4 + s ∨ (i = 12 + s ∧ w = 2)) : mr_R s w i = 20 := if_pos h
theorem mr_R0 {s w i : Nat} (h : ¬ (i = 4 + s ∨ (i = 12 + s ∧ w = 2))) : mr_R s w i = -1 := if_neg h
theorem mr_Rb (s w i : Nat) : (mr_R s w i).toInt8.toInt32 = mr_R s w i := by
  by_cases h : i = 4 + s ∨ (i = 12 + s ∧ w = 2)
  · rw [mr_R1 h]; decide
  · rw [mr_R0 h]; decide
theorem mr_Rc {s w j : Nat} (hs : s < 4) (hw : w < 3) (hj : j < 4) : mr_R s (w + 1) (4 * w + j) = mr_R s (w + 1) (4 * 3 + j) := by
  by_cases h : w = 1 ∧ j = s
  · rw [mr_R1 (by omega), mr_R1 (by omega)]
  · rw [mr_R0 (by omega), mr_R0 (by omega)]
theorem mr_p22 {pr lv fc ou yu rm mk sc md rs rn pc wc : Int32} {a1 a2 a3 a4 a5 a6 a7 a8 a9 a10 a11 a12 a13 a14 a15 a16 a17 a18 a19 a20 a21 a22 : Nat → Int32} {post : St2 → Prop} {J : Int32 → (Nat → Int32) → (Nat → Int32) → (Nat → Int32) → (Nat → Int32) → (Nat → Int32) → (Nat → Int32) → (Nat → Int32) → (Nat → Int32) → (Nat → Int32) → (Nat → Int32) → (Nat → Int32) → (Nat → Int32) → (Nat → Int32) → (Nat → Int32) → (Nat → Int32) → (Nat → Int32) → (Nat → Int32) → (Nat → Int32) → (Nat → Int32) → (Nat → Int32) → (Nat → Int32) → (Nat → Int32) → Prop} (c s w : Nat) (hc : c < 4) (hs : s < 4) (hw : w < 4)
    (h3 : ∀ i, i < 3 → a3 i = -1) (h33 : a3 3 = nI w - 1) (h4s : a4 (4 + s) = 20) (h4 : ∀ i, i < 16 → i ≠ 4 + s → a4 i = -1) (h5 : ∀ i, i < 4 * c → a5 i = mr_R s w i)
    (HJ : ∀ b, (∀ i, i < 4 * (c + 1) → b i = mr_R s w i) → J (nI (c + 1)) a1 a2 a3 a4 b a6 a7 a8 a9 a10 a11 a12 a13 a14 a15 a16 a17 a18 a19 a20 a21 a22) : ∃ n, wX_prepare_22 post J (nI c) pr lv fc ou yu rm mk sc md rs rn pc wc n 0 a1 a2 a3 a4 a5 a6 a7 a8 a9 a10 a11 a12 a13 a14 a15 a16 a17 a18 a19 a20 a21 a22 := by
  refine pk_loop (fun n j b => wX_prepare_22 post J (nI c) pr lv fc ou yu rm mk sc md rs rn pc wc n (nI j) a1 a2 a3 a4 b a6 a7 a8 a9 a10 a11 a12 a13 a14 a15 a16 a17 a18 a19 a20 a21 a22) (fun j b => ∀ i, i < 4 * c + j → b i = mr_R s w i) 4 0 a5 (by omega) h5
    (fun n b h => pk_le 4 4 (fun _ => nm_r (nI_1 c) (HJ b (fun i hi => h i (by omega)))) (fun z => absurd z (by omega))) ?_
  intro n j b hj h hn
  have hn' : ∀ x, x = mr_R s w (4 * c + j) → wX_prepare_22 post J (nI c) pr lv fc ou yu rm mk sc md rs rn pc wc n (nI (j + 1)) a1 a2 a3 a4 (upd b (4 * c + j) x) a6 a7 a8 a9 a10 a11 a12 a13 a14 a15 a16 a17 a18 a19 a20 a21 a22 :=
    fun x hx => hn _ (mr_fill (f := mr_R s w) rfl h hx)
  refine pk_le 4 j (fun z => absurd z (by omega)) (fun _ => ?_)
  rw [mr_ix4, nI_clamp (show 4 * c + j < 2 ^ 31 by omega)]
  refine ⟨pk_in (4 * c + j) 16 (by omega), ?_⟩
  by_cases e : 4 * c + j = 4 + s
  · refine nm_r (show a4 (4 * c + j) = 20 by rw [e, h4s]) (br_t (by decide) ⟨pk_in (4 * c + j) 16 (by omega), nm_e (nm_r (nI_1 j) (hn' _ ?_))⟩)
    rw [mr_R1 (Or.inl e)]
    decide
  · refine nm_r (h4 _ (by omega) e) (br_f (by decide) ⟨pk_in c 4 hc, ?_⟩)
    rw [nI_clamp (show c < 2 ^ 31 by omega)]
    by_cases e3 : c = 3
    · subst e3
      rw [h33]
      rcases w with _ | w
      · refine br_t (by decide) ⟨pk_in (4 * 3 + j) 16 (by omega), nm_e (nm_r (nI_1 j) (hn' _ ?_))⟩
        rw [mr_R0 (by omega)]
        decide
      · rw [nI_pred, mr_ix4, nI_clamp (show 4 * w + j < 2 ^ 31 by omega)]
        refine br_f (nI_pos (by omega)) ⟨pk_in 3 4 (by omega), pk_in (4 * w + j) 16 (by omega), pk_in (4 * 3 + j) 16 (by omega), nm_e (nm_r (nI_1 j) (hn' _ ?_))⟩
        rw [h _ (show 4 * w + j < 4 * 3 + j by omega), mr_Rb, mr_Rc hs (by omega) hj]
    · rw [h3 c (by omega)]
      refine br_t (by decide) ⟨pk_in (4 * c + j) 16 (by omega), nm_e (nm_r (nI_1 j) (hn' _ ?_))⟩
      rw [mr_R0 (by omega)]
      decide
theorem mr_couple {pr lv fc ou yu rm mk sc md rs rn pc wc : Int32} {a1 a2 a3 a4 a5 a6 a7 a8 a9 a10 a11 a12 a13 a14 a15 a16 a17 a18 a19 a20 a21 a22 : Nat → Int32} {post : Int32 → Prop} {x y : Int32} (h1 : ¬ x = 1) (h11 : ¬ x = 11) (h16 : x = 3 → ¬ y = 16) (h3 : x = 3 → ¬ y = 3) (H : post 0) : wpX_coupleOf post (pr, lv, fc, ou, yu, rm, mk, sc, md, rs, rn, pc, wc, a1, a2, a3, a4, a5, a6, a7, a8, a9, a10, a11, a12, a13, a14, a15, a16, a17, a18, a19, a20, a21, a22) x y := by
  have q40 : wX_coupleOf_40 post x y pr lv fc ou yu rm mk sc md rs rn pc wc a1 a2 a3 a4 a5 a6 a7 a8 a9 a10 a11 a12 a13 a14 a15 a16 a17 a18 a19 a20 a21 a22 := br_c (fun z => br_f (h3 z) H) (fun _ => H)
  have q13 : wX_coupleOf_13 post x y pr lv fc ou yu rm mk sc md rs rn pc wc a1 a2 a3 a4 a5 a6 a7 a8 a9 a10 a11 a12 a13 a14 a15 a16 a17 a18 a19 a20 a21 a22 := br_f h1 (br_f h11 q40)
  exact br_c (fun z => br_f (h16 z) q13) (fun _ => q13)
theorem mr_p95 {pr lv fc ou yu rm mk sc md rs rn pc wc : Int32} {a1 a2 a3 a4 a5 a6 a7 a8 a9 a10 a11 a12 a13 a14 a15 a16 a17 a18 a19 a20 a21 a22 : Nat → Int32} {post : St2 → Prop} (hO : ∀ i, i < 59 → ¬ a1 i = 1 ∧ ¬ a1 i = 11 ∧ (a1 i = 3 → ¬ a1 (i + 1) = 16) ∧ (a1 i = 3 → ¬ a1 (i + 1) = 3))
    (H : ∀ b6 b7, (∀ i, i < 60 → b6 i = 0) → (∀ i, i < 60 → b7 i = -1) → post (pr, lv, fc, ou, yu, rm, mk, sc, md, rs, rn, pc, wc, a1, a2, a3, a4, a5, b6, b7, a8, a9, a10, a11, a12, a13, a14, a15, a16, a17, a18, a19, a20, a21, a22)) : ∃ n, wX_prepare_95 post pr lv fc ou yu rm mk sc md rs rn pc wc n 0 a1 a2 a3 a4 a5 a6 a7 a8 a9 a10 a11 a12 a13 a14 a15 a16 a17 a18 a19 a20 a21 a22 := by
  refine pk_loop (fun n i (b : (Nat → Int32) × (Nat → Int32)) => wX_prepare_95 post pr lv fc ou yu rm mk sc md rs rn pc wc n (nI i) a1 a2 a3 a4 a5 (b.1) (b.2) a8 a9 a10 a11 a12 a13 a14 a15 a16 a17 a18 a19 a20 a21 a22) (fun i b => (∀ j, j < i → b.1 j = 0) ∧ (∀ j, j < i → b.2 j = -1)) 60 0 (a6, a7) (by omega) ⟨fun j hj => absurd hj (by omega), fun j hj => absurd hj (by omega)⟩
    (fun n b h => pk_le 60 60 (fun _ => H b.1 b.2 h.1 h.2) (fun z => absurd z (by omega))) ?_
  intro n i b hi h hn
  obtain ⟨b6, b7⟩ := b
  have hn' : wX_prepare_95 post pr lv fc ou yu rm mk sc md rs rn pc wc n (nI (i + 1)) a1 a2 a3 a4 a5 (upd b6 i 0) (upd b7 i (-1)) a8 a9 a10 a11 a12 a13 a14 a15 a16 a17 a18 a19 a20 a21 a22 :=
    hn (upd b6 i 0, upd b7 i (-1)) ⟨mr_fill (f := fun _ => 0) rfl h.1 rfl, mr_fill (f := fun _ => -1) rfl h.2 rfl⟩
  refine pk_le 60 i (fun z => absurd z (by omega)) (fun _ => ?_)
  rw [nI_1, nI_clamp (show i < 2 ^ 31 by omega), nI_clamp (show i + 1 < 2 ^ 31 by omega)]
  refine ⟨pk_in i 60 hi, nm_e (pk_le 59 i (fun z => ⟨pk_in i 60 hi, nm_e (nm_e hn')⟩) (fun z => ⟨pk_in i 60 hi, pk_in (i + 1) 60 (by omega), ?_⟩))⟩
  obtain ⟨o1, o2, o3, o4⟩ := hO i z
  exact mr_couple o1 o2 o3 o4 ⟨pk_in i 60 hi, nm_e (nm_e hn')⟩
theorem mr_prepare {pr lv fc ou yu rm mk sc md rs rn pc wc : Int32} {a1 a2 a3 a4 a5 a6 a7 a8 a9 a10 a11 a12 a13 a14 a15 a16 a17 a18 a19 a20 a21 a22 : Nat → Int32} {post : St2 → Prop} (s w : Nat) (hs : s < 4) (hw : w < 4) (hpr : pr = 0)
    (h3 : ∀ i, i < 3 → a3 i = -1) (h33 : a3 3 = nI w - 1) (h4s : a4 (4 + s) = 20) (h4 : ∀ i, i < 16 → i ≠ 4 + s → a4 i = -1)
    (hO : ∀ i, i < 59 → ¬ a1 i = 1 ∧ ¬ a1 i = 11 ∧ (a1 i = 3 → ¬ a1 (i + 1) = 16) ∧ (a1 i = 3 → ¬ a1 (i + 1) = 3))
    (H : ∀ b5 b6 b7, (∀ i, i < 16 → b5 i = mr_R s w i) → (∀ i, i < 60 → b6 i = 0) → (∀ i, i < 60 → b7 i = -1) → post (1, lv, fc, ou, yu, rm, mk, sc, md, rs, rn, pc, wc, a1, a2, a3, a4, b5, b6, b7, a8, a9, a10, a11, a12, a13, a14, a15, a16, a17, a18, a19, a20, a21, a22)) :
    wpX_prepare post (pr, lv, fc, ou, yu, rm, mk, sc, md, rs, rn, pc, wc, a1, a2, a3, a4, a5, a6, a7, a8, a9, a10, a11, a12, a13, a14, a15, a16, a17, a18, a19, a20, a21, a22) := by
  refine br_t hpr ?_
  refine pk_loop (fun n c b => wX_prepare_15 post 1 lv fc ou yu rm mk sc md rs rn pc wc n (nI c) a1 a2 a3 a4 b a6 a7 a8 a9 a10 a11 a12 a13 a14 a15 a16 a17 a18 a19 a20 a21 a22) (fun c b => ∀ i, i < 4 * c → b i = mr_R s w i) 4 0 a5 (by omega) (fun j hj => absurd hj (by omega))
    (fun n b h => pk_le 4 4 (fun _ => mr_p95 hO (fun b6 b7 g6 g7 => H b b6 b7 h g6 g7)) (fun z => absurd z (by omega))) ?_
  intro n c b hc h hn
  exact pk_le 4 c (fun z => absurd z (by omega)) (fun _ => mr_p22 c s w hc hs hw h3 h33 h4s h4 h (fun b' hb' => hn b' hb'))
end
section
theorem mr_run {pr lv fc ou yu rm mk sc md rs rn pc wc : Int32} {a1 a2 a3 a4 a5 a6 a7 a8 a9 a10 a11 a12 a13 a14 a15 a16 a17 a18 a19 a20 a21 a22 : Nat → Int32} {post : Int32 → St2 → Prop} {a : Int32} (k s w : Nat) (hk : k < 4) (hs : s < 4) (hw : w < 4) (hpr : pr = 0) (hlv : lv = 2) (hou : ou = 0) (hyu : yu = 0)
    (o0 : a1 0 = 15) (o1 : a1 1 = 3) (o2 : a1 2 = 19) (o20 : a1 20 = 3) (o21 : a1 21 = 23) (o22 : a1 22 = 0)
    (n0 : a2 0 = nI k) (n1 : a2 1 = nI 1) (n2 : a2 2 = nI s) (n20 : a2 20 = nI 1)
    (h3 : ∀ i, i < 3 → a3 i = -1) (h33 : a3 3 = nI w - 1) (h4s : a4 (4 + s) = 20) (h4 : ∀ i, i < 16 → i ≠ 4 + s → a4 i = -1)
    (hO : ∀ i, i < 59 → ¬ a1 i = 1 ∧ ¬ a1 i = 11 ∧ (a1 i = 3 → ¬ a1 (i + 1) = 16) ∧ (a1 i = 3 → ¬ a1 (i + 1) = 3))
    (Hf : (k = 1 ∨ k = 3 ∧ w = 2) → ∀ {pr' lv' fc' ou' yu' rm' mk' sc' md' rs' rn' pc' wc' : Int32} {a1' a2' a3' a4' a5' a6' a7' a8' a9' a10' a11' a12' a13' a14' a15' a16' a17' a18' a19' a20' a21' a22' : Nat → Int32}, pc' = 1 → a22' 0 = a → sc' = 6 → post 0 (pr', lv', fc', ou', yu', rm', mk', sc', md', rs', rn', pc', wc', a1', a2', a3', a4', a5', a6', a7', a8', a9', a10', a11', a12', a13', a14', a15', a16', a17', a18', a19', a20', a21', a22'))
    (Hm : ¬ (k = 1 ∨ k = 3 ∧ w = 2) → ∀ {pr' lv' fc' ou' yu' rm' mk' sc' md' rs' rn' pc' wc' : Int32} {a1' a2' a3' a4' a5' a6' a7' a8' a9' a10' a11' a12' a13' a14' a15' a16' a17' a18' a19' a20' a21' a22' : Nat → Int32}, pc' = 0 → sc' = 2 → post 6 (pr', lv', fc', ou', yu', rm', mk', sc', md', rs', rn', pc', wc', a1', a2', a3', a4', a5', a6', a7', a8', a9', a10', a11', a12', a13', a14', a15', a16', a17', a18', a19', a20', a21', a22')) :
    wpX_run post (pr, lv, fc, ou, yu, rm, mk, sc, md, rs, rn, pc, wc, a1, a2, a3, a4, a5, a6, a7, a8, a9, a10, a11, a12, a13, a14, a15, a16, a17, a18, a19, a20, a21, a22) 0 a := by
  unfold wpX_run
  refine mr_prepare s w hs hw hpr h3 h33 h4s h4 hO (fun b5 b6 b7 g5 g6 g7 => ?_)
  refine mr_openFrame 0 1 rfl (by omega) rfl ?_
  refine mr_setLocal 0 1 1 (by decide) (by omega) rfl (by omega) rfl ?_
  have R5 : b5 (4 * k + s) = mr_R s w (4 * k + s) := g5 _ (by omega)
  by_cases F : k = 1 ∨ k = 3 ∧ w = 2
  · rw [mr_R1 (by omega)] at R5
    refine ⟨7, br_t rfl ?_⟩
    refine mr_workC 0 0 0 0 1 0 15 (Or.inl ⟨rfl, rfl, rfl⟩) (by decide) (by omega) rfl (by omega) rfl (by omega) hlv (g6 0 (by omega)) o0 (nI k) n0 rfl (by omega) (by omega) (by omega) (Or.inl rfl) rfl
      (fun Q h => mr_oneNew 0 0 0 (by decide) (by omega) rfl (by omega) rfl hou hyu h) ?_
    refine br_t rfl ?_
    refine mr_workC 0 1 1 0 1 1 3 (Or.inr (Or.inl ⟨rfl, rfl, rfl⟩)) (by decide) (by omega) rfl (by omega) rfl (by omega) hlv (g6 1 (by omega)) o1 (nI 1) n1 rfl (by omega) (by omega) (by omega) (Or.inl rfl) rfl
      (fun Q h => mr_oneLoad 0 1 1 1 1 (by decide) (by omega) rfl (by omega) rfl (by omega) rfl rfl h) ?_
    refine br_t rfl ?_
    refine mr_workC 0 2 2 2 0 2 19 (Or.inr (Or.inr (Or.inl ⟨rfl, rfl, rfl⟩))) (by decide) (by omega) rfl (by omega) rfl (by omega) hlv (g6 2 (by omega)) o2 (nI s) n2 rfl (by omega) (by omega) (by omega) (Or.inl rfl) rfl
      (fun Q h => mr_oneCallF 2 k s rfl hlv rfl rfl rfl (pk_us.trans (mr_b k (by omega))) hk hs (by omega) (g7 2 (by omega)) R5 h) ?_
    refine br_t rfl ?_
    refine mr_workC 1 20 0 0 1 3 3 (Or.inr (Or.inl ⟨rfl, rfl, rfl⟩)) (by decide) (by omega) rfl (by omega) rfl (by omega) hlv (g6 20 (by omega)) o20 (nI 1) n20 rfl (by omega) (by omega) (by omega) (Or.inl rfl) rfl
      (fun Q h => mr_oneLoad 1 1 0 5 6 (by decide) (by omega) rfl (by omega) rfl (by omega) rfl rfl h) ?_
    refine br_t rfl ?_
    refine mr_workC 1 21 1 1 0 4 23 (Or.inr (Or.inr (Or.inr (Or.inl ⟨rfl, rfl, rfl⟩)))) (by decide) (by omega) rfl (by omega) rfl (by omega) hlv (g6 21 (by omega)) o21 _ rfl rfl (by omega) (by omega) (by omega) (Or.inl rfl) rfl
      (fun Q h => mr_oneOut 1 0 6 0 (by decide) (by omega) rfl (by omega) rfl rfl rfl (by omega) h) ?_
    refine br_t rfl ?_
    refine mr_workC 1 22 0 0 0 5 0 (Or.inr (Or.inr (Or.inr (Or.inr ⟨rfl, rfl, rfl⟩)))) (by decide) (by omega) rfl (by omega) rfl (by omega) hlv (g6 22 (by omega)) o22 _ rfl rfl (by omega) (by omega) (by omega) (Or.inr rfl) rfl
      (fun Q h => mr_oneStop h) ?_
    refine br_f (by decide) ?_
    refine Hf F ?_ ?_ ?_ <;> rfl
  · rw [mr_R0 (by omega)] at R5
    refine ⟨4, br_t rfl ?_⟩
    refine mr_workC 0 0 0 0 1 0 15 (Or.inl ⟨rfl, rfl, rfl⟩) (by decide) (by omega) rfl (by omega) rfl (by omega) hlv (g6 0 (by omega)) o0 (nI k) n0 rfl (by omega) (by omega) (by omega) (Or.inl rfl) rfl
      (fun Q h => mr_oneNew 0 0 0 (by decide) (by omega) rfl (by omega) rfl hou hyu h) ?_
    refine br_t rfl ?_
    refine mr_workC 0 1 1 0 1 1 3 (Or.inr (Or.inl ⟨rfl, rfl, rfl⟩)) (by decide) (by omega) rfl (by omega) rfl (by omega) hlv (g6 1 (by omega)) o1 (nI 1) n1 rfl (by omega) (by omega) (by omega) (Or.inl rfl) rfl
      (fun Q h => mr_oneLoad 0 1 1 1 1 (by decide) (by omega) rfl (by omega) rfl (by omega) rfl rfl h) ?_
    refine br_t rfl ?_
    refine mr_work6 0 2 2 2 0 2 19 (Or.inr (Or.inr (Or.inl ⟨rfl, rfl, rfl⟩))) (by decide) (by omega) rfl (by omega) rfl (by omega) hlv (g6 2 (by omega)) o2 (nI s) n2 rfl (by omega) (by omega) (by omega)
      (fun Q h => mr_oneCallM 2 k s rfl hlv rfl rfl rfl (pk_us.trans (mr_b k (by omega))) hk hs (by omega) (g7 2 (by omega)) R5 h) ?_
    refine br_f (by decide) ?_
    refine Hm F ?_ ?_ <;> rfl
end
section
def mr_ops : Nat → Int32 := upd (upd (upd (upd (upd (fun _ => 0) 0 15) 1 3) 2 19) 20 3) 21 23
theorem mr_opsO : ∀ i, i < 59 → ¬ mr_ops i = 1 ∧ ¬ mr_ops i = 11 ∧ (mr_ops i = 3 → ¬ mr_ops (i + 1) = 16) ∧ (mr_ops i = 3 → ¬ mr_ops (i + 1) = 3) := by decide +kernel
theorem mr_law40 {post : Int32 → St0 → Prop} {x z : Int32} (k s w : Nat) (hk : k < 4) (hs : s < 4) (hw : w < 4) (z1 : (k = 1 ∨ k = 3 ∧ w = 2) → z = 1) (z0 : ¬ (k = 1 ∨ k = 3 ∧ w = 2) → z = 0) (H : post 1 ()) :
    wL_lawOf_40 post 23 907 x (nI k) (nI s) (nI w - 1) z 0 0 := by
  refine ⟨by decide, by decide, 22, 872, by decide, by decide, ?_⟩
  refine mr_init (fun b3 b4 g3 g4 => ?_)
  refine mr_above w hw (br_f (by decide) ?_)
  refine mr_method s hs (br_f (by decide) ?_)
  refine mr_code 15 0 k (by omega) hk (Or.inr (Or.inl rfl)) (br_f (by decide) ?_)
  refine mr_code 3 1 1 (by omega) (by omega) (Or.inl rfl) (br_f (by decide) ?_)
  refine mr_code 19 2 s (by omega) hs (Or.inr (Or.inr (Or.inl rfl))) (br_f (by decide) ?_)
  refine mr_code 3 20 1 (by omega) (by omega) (Or.inl rfl) (br_f (by decide) ?_)
  refine mr_code 23 21 0 (by omega) (by omega) (Or.inr (Or.inr (Or.inr rfl))) (br_f (by decide) ?_)
  refine mr_run k s w hk hs hw rfl rfl rfl rfl rfl rfl rfl rfl rfl rfl rfl rfl rfl rfl (fun i hi => (pk_un (by omega)).trans (g3 i (by omega))) pk_us pk_us (fun i hi hne => (pk_un hne).trans (g4 i hi)) mr_opsO ?_ ?_
  · intro F pr' lv' fc' ou' yu' rm' mk' sc' md' rs' rn' pc' wc' a1' a2' a3' a4' a5' a6' a7' a8' a9' a10' a11' a12' a13' a14' a15' a16' a17' a18' a19' a20' a21' a22' hpc ha hsc
    have hz : ¬ z = 0 := by rw [z1 F]; decide
    refine br_f hz (br_t rfl (br_f (by decide) (br_f (by rw [hpc]; decide) (br_t (by decide) ⟨pk_in 0 20 (by omega), br_f hz (br_t ha (br_f hz (br_t hsc H)))⟩))))
  · intro F pr' lv' fc' ou' yu' rm' mk' sc' md' rs' rn' pc' wc' a1' a2' a3' a4' a5' a6' a7' a8' a9' a10' a11' a12' a13' a14' a15' a16' a17' a18' a19' a20' a21' a22' hpc hsc
    have hz : z = 0 := z0 F
    refine br_t hz (br_t rfl (br_f (by decide) (br_t (by rw [hpc]; decide) (br_t hz (br_t rfl (br_t hz (br_t hsc H)))))))
theorem mr_u1 : ∀ w, w < 4 → w ≠ 2 → ¬ nI w - 1 = 1 := by decide
theorem mr_lawOf {post : Int32 → St0 → Prop} (c sl a up : Int32) (H : post 1 ()) : wpL_lawOf post 23 907 () c sl a up := by
  obtain ⟨k, hk, ek⟩ := pk_andE c (m := 3) 2 (by decide)
  obtain ⟨s, hs, es⟩ := pk_andE sl (m := 3) 2 (by decide)
  obtain ⟨w, hw, ew⟩ := pk_andE up (m := 3) 2 (by decide)
  have hk4 : k < 4 := hk
  have hs4 : s < 4 := hs
  have hw4 : w < 4 := hw
  refine nm_r ek (nm_r es (nm_r (show (up &&& 3) - 1 = nI w - 1 by rw [ew]) ?_))
  refine pk_eq k 1 (fun z => mr_law40 k s w hk4 hs4 hw4 (fun _ => rfl) (fun g => absurd (Or.inl z) g) H) (fun n1 => pk_eq k 3 (fun z => ?_) (fun n3 => mr_law40 k s w hk4 hs4 hw4 (fun g => absurd g (by omega)) (fun _ => rfl) H))
  by_cases e : w = 2
  · exact br_t (by rw [e]; decide) (mr_law40 k s w hk4 hs4 hw4 (fun _ => rfl) (fun g => absurd (Or.inr ⟨z, e⟩) g) H)
  · exact br_f (mr_u1 w hw4 e) (mr_law40 k s w hk4 hs4 hw4 (fun g => absurd g (by omega)) (fun _ => rfl) H)
theorem mr_cell {post : Int32 → Prop} {xs : Nat → Int32} {L : Nat} (hL : L ≤ 4) (i : Nat) (hi : i < 4) (H : ∀ x, post x) : wpL_cellAt post L xs () (nI i) :=
  pk_le L i (fun _ => H 0) (fun z => ⟨pk_in i L z, H _⟩)
theorem i_vc (xs : Nat → Int32) (L : Nat) (hL : L ≤ 4) : wpL_law (fun r => r = 1) L xs :=
  mr_cell hL 0 (by omega) (fun c => mr_cell hL 1 (by omega) (fun sl => mr_cell hL 2 (by omega) (fun a => mr_cell hL 3 (by omega) (fun up => ⟨23, 907, by decide, by decide, mr_lawOf c sl a up rfl⟩))))
end
