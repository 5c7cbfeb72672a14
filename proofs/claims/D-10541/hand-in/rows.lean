section
/-- small ints by their integer -/
def sw_i (z : Int) : Int32 := Int32.ofInt z
theorem sw_ia (a b : Int) : sw_i a + sw_i b = sw_i (a + b) := (Int32.ofInt_add a b).symm
theorem sw_is (a b : Int) : sw_i a - sw_i b = sw_i (a - b) := (Int32.ofInt_sub a b).symm
theorem sw_im (a b : Int) : sw_i a * sw_i b = sw_i (a * b) := (Int32.ofInt_mul a b).symm
theorem sw_in (n : Nat) : nI n = sw_i n := Int32.ofInt_eq_ofNat.symm
theorem sw_i1 (a : Int) : sw_i a + 1 = sw_i (a + 1) := sw_ia a 1
theorem sw_iT {a : Int} (ha : -1000000 ≤ a ∧ a ≤ 1000000) : (sw_i a).toInt = a := Int32.toInt_ofInt_of_le (by omega) (by omega)
theorem sw_leI {a b : Int} (ha : -1000000 ≤ a ∧ a ≤ 1000000) (hb : -1000000 ≤ b ∧ b ≤ 1000000) : sw_i a ≤ sw_i b ↔ a ≤ b := by
  rw [Int32.le_iff_toInt_le, sw_iT ha, sw_iT hb]
theorem sw_ltI {a b : Int} (ha : -1000000 ≤ a ∧ a ≤ 1000000) (hb : -1000000 ≤ b ∧ b ≤ 1000000) : sw_i a < sw_i b ↔ a < b := by
  rw [Int32.lt_iff_toInt_lt, sw_iT ha, sw_iT hb]
theorem sw_eqI {a b : Int} (ha : -1000000 ≤ a ∧ a ≤ 1000000) (hb : -1000000 ≤ b ∧ b ≤ 1000000) : sw_i a = sw_i b ↔ a = b := by
  rw [← Int32.toInt_inj, sw_iT ha, sw_iT hb]
theorem sw_le {x y : Int32} {A B : Prop} (a b : Int) (hx : x = sw_i a) (hy : y = sw_i b) (f : a ≤ b → A) (g : b < a → B) (ha : -1000000 ≤ a ∧ a ≤ 1000000 := by omega) (hb : -1000000 ≤ b ∧ b ≤ 1000000 := by omega) : (x ≤ y → A) ∧ (¬ x ≤ y → B) := by
  subst hx hy
  rw [sw_leI ha hb]
  exact ⟨f, fun z => g (by omega)⟩
theorem sw_lt {x y : Int32} {A B : Prop} (a b : Int) (hx : x = sw_i a) (hy : y = sw_i b) (f : a < b → A) (g : b ≤ a → B) (ha : -1000000 ≤ a ∧ a ≤ 1000000 := by omega) (hb : -1000000 ≤ b ∧ b ≤ 1000000 := by omega) : (x < y → A) ∧ (¬ x < y → B) := by
  subst hx hy
  rw [sw_ltI ha hb]
  exact ⟨f, fun z => g (by omega)⟩
theorem sw_eq {x y : Int32} {A B : Prop} (a b : Int) (hx : x = sw_i a) (hy : y = sw_i b) (f : a = b → A) (g : a ≠ b → B) (ha : -1000000 ≤ a ∧ a ≤ 1000000 := by omega) (hb : -1000000 ≤ b ∧ b ≤ 1000000 := by omega) : (x = y → A) ∧ (¬ x = y → B) := by
  subst hx hy
  rw [sw_eqI ha hb]
  exact ⟨f, g⟩
/-- an int that is a small natural -/
theorem sw_iN {a : Int} (h : 0 ≤ a) : sw_i a = nI a.toNat := by
  rw [sw_in, Int.toNat_of_nonneg h]
theorem sw_cl0 : ((0 : Int32).toNatClampNeg) = 0 := rfl
theorem sw_nb0 : vp_nar .boolean 0 = 0 := rfl
theorem sw_nb1 : vp_nar .boolean 1 = 1 := rfl
theorem sw_up {f : Nat → Int32} {k j : Nat} {x : Int32} : upd f k x j = if j = k then x else f j := rfl
/-- a value that a place of a picture names -/
theorem sw_at {α : Sort _} {P : α → Prop} {x y : α} (e : x = y) (h : P y) : P x := e ▸ h
/-- the whole picture of a state: kd wd pn lt the makings, the one event (s t k v), b: it is read, c: how many have come in at s, the mark, the next window, the idle flags -/
def sw_R (kd wd pn lt s t k : Nat) (v : Int32) (b c : Nat) (mk nw : Int) (id : Nat → Int32) (u : St2) : Prop := match u with
  | (fk, fw, fp, fl, fm, fc, fn, fr, gm, gc, gn, gr, tc, ts, tl, tm, a1, a2, a3, a4, a5, a6, a7, a8, a9, a10, a11, a12, a13, a14, a15, a16, a17, a18, a19, a20, a21, a22, a23, a24) =>
    (fk = nI kd ∧ fw = nI wd ∧ fp = nI pn ∧ fl = nI lt ∧ fm = sw_i mk ∧ fc = 0 ∧ fn = sw_i nw ∧ fr = 0) ∧
    (gm = -1000 ∧ gc = 0 ∧ gn = sw_i (1 - (pn : Int)) ∧ gr = 0) ∧
    (∀ j, j < 3 → a20 j = 0 ∧ a21 j = -1000 ∧ a22 j = 0) ∧
    (∀ j, j < 256 → a23 (4 * j) = 0 ∧ a23 (4 * j + 1) = 0) ∧
    (∀ j, j < 4 → a24 (768 + j) = 0) ∧
    (∀ j, j < 3 → a1 j = (if j = s then nI c else 0) ∧ a5 j = (if j = s then nI b else 0) ∧ a6 j = (if b = 1 ∧ j = s then nI t else -1000) ∧ a7 j = id j) ∧
    (0 < c → a2 (20 * s) = nI t ∧ a3 (20 * s) = nI k ∧ a4 (20 * s) = v) ∧
    (∀ j, j < 256 → a8 j = (if b = 1 ∧ kd < 2 ∧ j = 64 * k + t / wd then 1 else 0) ∧ a9 j = (if b = 1 ∧ kd < 2 ∧ j = 64 * k + t / wd then v else 0)) ∧
    (∀ j, j < 4 → a12 j = (if b = 1 ∧ kd = 2 ∧ j = k then 1 else 0)) ∧
    (b = 1 → kd = 2 → a14 (32 * k) = nI t ∧ a16 (32 * k) = v)
/-- the makings and the event are in range -/
def sw_C (kd wd pn lt s t k : Nat) : Prop := kd ≤ 2 ∧ 1 ≤ wd ∧ wd ≤ 8 ∧ 1 ≤ pn ∧ pn ≤ 4 ∧ lt ≤ 20 ∧ s < 3 ∧ t < 64 ∧ k < 4
end
section
theorem sw_x (a i c : Nat) : nI a * nI i + nI c = nI (a * i + c) := by rw [pk_mul, nI_add]
theorem sw_keep275 {post : Int32 → St2 → Prop} {fk fw fp fl fm fc fn fr gm gc gn gr tc ts tl tm : Int32} {a1 a2 a3 a4 a5 a6 a7 a8 a9 a10 a11 a12 a13 a14 a15 a16 a17 a18 a19 a20 a21 a22 a23 a24 : Nat → Int32} (h : ∀ j, j < 4 → a12 j = 0)
    (hp : ∀ b24, (∀ j, j < 4 → b24 (768 + j) = 0) → post gr (fk, fw, fp, fl, fm, fc, fn, fr, gm, gc, gn, gr, tc, ts, tl, tm, a1, a2, a3, a4, a5, a6, a7, a8, a9, a10, a11, a12, a13, a14, a15, a16, a17, a18, a19, a20, a21, a22, a23, b24)) :
    ∃ n, wX_keep_275 post fk fw fp fl fm fc fn fr gm gc gn gr tc ts tl tm n 0 a1 a2 a3 a4 a5 a6 a7 a8 a9 a10 a11 a12 a13 a14 a15 a16 a17 a18 a19 a20 a21 a22 a23 a24 :=
  pk_loop (fun n i s => wX_keep_275 post fk fw fp fl fm fc fn fr gm gc gn gr tc ts tl tm n (nI i) a1 a2 a3 a4 a5 a6 a7 a8 a9 a10 a11 a12 a13 a14 a15 a16 a17 a18 a19 a20 a21 a22 a23 s) (fun i s => ∀ j, j < i → s (768 + j) = 0) 4 0 a24 (by omega) (fun j hj => absurd hj (by omega))
    (fun n s hs => pk_le 4 4 (fun _ => hp s hs) (fun z => absurd z (by omega)))
    (fun n i s hi hs hw => pk_le 4 i (fun z => absurd z (by omega)) (fun _ => ⟨pk_in i 4 hi, pk_in (768 + i) 772 (by omega) (nI_add 768 i), nm_e (nm_r (nI_1 i) (hw _ (by
      intro j hj
      have e0 : (768 + nI i).toNatClampNeg = 768 + i := pk_cl (768 + i) (nI_add 768 i)
      have e1 : (nI i).toNatClampNeg = i := nI_clamp (by omega)
      rw [e0, e1, sw_up]
      split
      · exact h i hi
      · exact hs j (by omega))))⟩))
theorem sw_keep160 {post : Int32 → St2 → Prop} {fk fw fp fl fm fc fn fr gm gc gn gr tc ts tl tm : Int32} {a1 a2 a3 a4 a5 a6 a7 a8 a9 a10 a11 a12 a13 a14 a15 a16 a17 a18 a19 a20 a21 a22 a23 a24 : Nat → Int32} (h : ∀ j, j < 4 → a12 j = 0)
    (hp : ∀ b24, (∀ j, j < 4 → b24 (768 + j) = 0) → post gr (fk, fw, fp, fl, fm, fc, fn, fr, gm, gc, gn, gr, tc, ts, tl, tm, a1, a2, a3, a4, a5, a6, a7, a8, a9, a10, a11, a12, a13, a14, a15, a16, a17, a18, a19, a20, a21, a22, a23, b24)) :
    ∃ n, wX_keep_160 post fk fw fp fl fm fc fn fr gm gc gn gr tc ts tl tm n 0 a1 a2 a3 a4 a5 a6 a7 a8 a9 a10 a11 a12 a13 a14 a15 a16 a17 a18 a19 a20 a21 a22 a23 a24 :=
  pk_loop (fun n i s => wX_keep_160 post fk fw fp fl fm fc fn fr gm gc gn gr tc ts tl tm n (nI i) a1 a2 a3 a4 a5 a6 a7 a8 a9 a10 a11 a12 a13 a14 a15 a16 a17 a18 a19 a20 a21 a22 a23 s) (fun _ _ => True) 128 0 a24 (by omega) trivial
    (fun n s _ => pk_le 128 128 (fun _ => sw_keep275 h hp) (fun z => absurd z (by omega)))
    (fun n i s hi _ hw => pk_le 128 i (fun z => absurd z (by omega)) (fun _ =>
      ⟨pk_in i 128 hi, pk_in (6 * i) 772 (by omega) (pk_mul 6 i), nm_e
      ⟨pk_in i 128 hi, pk_in (6 * i + 1) 772 (by omega) (sw_x 6 i 1), nm_e
      ⟨pk_in i 128 hi, pk_in (6 * i + 2) 772 (by omega) (sw_x 6 i 2), nm_e
      ⟨pk_in i 128 hi, pk_in (6 * i + 3) 772 (by omega) (sw_x 6 i 3), nm_e
      ⟨pk_in i 128 hi, pk_in (6 * i + 4) 772 (by omega) (sw_x 6 i 4), nm_e
      ⟨pk_in i 128 hi, pk_in (6 * i + 5) 772 (by omega) (sw_x 6 i 5), nm_e
      (nm_r (nI_1 i) (hw _ trivial))⟩⟩⟩⟩⟩⟩))
theorem sw_keep83F {s : Nat → Int32} {i : Nat} {x0 x1 x2 x3 : Int32} (hs : ∀ j, j < i → s (4 * j) = 0 ∧ s (4 * j + 1) = 0) (h0 : x0 = 0) (h1 : x1 = 0) : ∀ j, j < i + 1 → upd (upd (upd (upd s (4 * i) x0) (4 * i + 1) x1) (4 * i + 2) x2) (4 * i + 3) x3 (4 * j) = 0 ∧ upd (upd (upd (upd s (4 * i) x0) (4 * i + 1) x1) (4 * i + 2) x2) (4 * i + 3) x3 (4 * j + 1) = 0 := by
  intro j hj
  rcases Nat.lt_or_ge j i with g | g
  · rw [pk_un (by omega), pk_un (by omega), pk_un (by omega), pk_un (by omega), pk_un (by omega), pk_un (by omega), pk_un (by omega), pk_un (by omega)]
    exact hs j g
  · have e : j = i := by omega
    subst e
    rw [pk_un (by omega), pk_un (by omega), pk_un (by omega), pk_us, pk_un (by omega), pk_un (by omega), pk_us]
    exact ⟨h0, h1⟩
theorem sw_keep83 {post : Int32 → St2 → Prop} {fk fw fp fl fm fc fn fr gm gc gn gr tc ts tl tm : Int32} {a1 a2 a3 a4 a5 a6 a7 a8 a9 a10 a11 a12 a13 a14 a15 a16 a17 a18 a19 a20 a21 a22 a23 a24 : Nat → Int32} (h8 : ∀ j, j < 256 → a8 j = 0) (h9 : ∀ j, j < 256 → a9 j = 0) (h : ∀ j, j < 4 → a12 j = 0)
    (hp : ∀ b23 b24, (∀ j, j < 256 → b23 (4 * j) = 0 ∧ b23 (4 * j + 1) = 0) → (∀ j, j < 4 → b24 (768 + j) = 0) → post gr (fk, fw, fp, fl, fm, fc, fn, fr, gm, gc, gn, gr, tc, ts, tl, tm, a1, a2, a3, a4, a5, a6, a7, a8, a9, a10, a11, a12, a13, a14, a15, a16, a17, a18, a19, a20, a21, a22, b23, b24)) :
    ∃ n, wX_keep_83 post fk fw fp fl fm fc fn fr gm gc gn gr tc ts tl tm n 0 a1 a2 a3 a4 a5 a6 a7 a8 a9 a10 a11 a12 a13 a14 a15 a16 a17 a18 a19 a20 a21 a22 a23 a24 :=
  pk_loop (fun n i s => wX_keep_83 post fk fw fp fl fm fc fn fr gm gc gn gr tc ts tl tm n (nI i) a1 a2 a3 a4 a5 a6 a7 a8 a9 a10 a11 a12 a13 a14 a15 a16 a17 a18 a19 a20 a21 a22 s a24) (fun i s => ∀ j, j < i → s (4 * j) = 0 ∧ s (4 * j + 1) = 0) 256 0 a23 (by omega) (fun j hj => absurd hj (by omega))
    (fun n s hs => pk_le 256 256 (fun _ => sw_keep160 h (fun b24 h24 => hp s b24 hs h24)) (fun z => absurd z (by omega)))
    (fun n i s hi hs hw => pk_le 256 i (fun z => absurd z (by omega)) (fun _ =>
      ⟨pk_in i 256 hi, pk_in (4 * i) 1024 (by omega) (pk_mul 4 i), nm_e
      ⟨pk_in i 256 hi, pk_in (4 * i + 1) 1024 (by omega) (sw_x 4 i 1), nm_e
      ⟨pk_in i 256 hi, pk_in (4 * i + 2) 1024 (by omega) (sw_x 4 i 2), nm_e
      ⟨pk_in i 256 hi, pk_in (4 * i + 3) 1024 (by omega) (sw_x 4 i 3), nm_e
      (nm_r (nI_1 i) (hw _ (by
        have e0 : (4 * nI i).toNatClampNeg = 4 * i := pk_cl (4 * i) (pk_mul 4 i)
        have e1 : (4 * nI i + 1).toNatClampNeg = 4 * i + 1 := pk_cl (4 * i + 1) (sw_x 4 i 1)
        have e2 : (4 * nI i + 2).toNatClampNeg = 4 * i + 2 := pk_cl (4 * i + 2) (sw_x 4 i 2)
        have e3 : (4 * nI i + 3).toNatClampNeg = 4 * i + 3 := pk_cl (4 * i + 3) (sw_x 4 i 3)
        have e4 : (nI i).toNatClampNeg = i := nI_clamp (by omega)
        rw [e0, e1, e2, e3, e4]
        exact sw_keep83F hs (h8 i hi) (h9 i hi))))⟩⟩⟩⟩))
theorem sw_fill3 {s : Nat → Int32} {i : Nat} {x y : Int32} (hs : ∀ j, j < i → s j = y) (hx : x = y) : ∀ j, j < i + 1 → upd s i x j = y := by
  intro j hj
  rw [sw_up]
  split
  · exact hx
  · exact hs j (by omega)
theorem sw_keep {post : Int32 → St2 → Prop} {fk fw fp fl fm fc fn fr gm gc gn gr tc ts tl tm : Int32} {a1 a2 a3 a4 a5 a6 a7 a8 a9 a10 a11 a12 a13 a14 a15 a16 a17 a18 a19 a20 a21 a22 a23 a24 : Nat → Int32} (h5 : ∀ j, j < 3 → a5 j = 0) (h6 : ∀ j, j < 3 → a6 j = -1000) (h7 : ∀ j, j < 3 → a7 j = 0)
    (h8 : ∀ j, j < 256 → a8 j = 0) (h9 : ∀ j, j < 256 → a9 j = 0) (h : ∀ j, j < 4 → a12 j = 0)
    (hp : ∀ b20 b21 b22 b23 b24, (∀ j, j < 3 → b20 j = 0) → (∀ j, j < 3 → b21 j = -1000) → (∀ j, j < 3 → b22 j = 0) → (∀ j, j < 256 → b23 (4 * j) = 0 ∧ b23 (4 * j + 1) = 0) → (∀ j, j < 4 → b24 (768 + j) = 0) → post fr (fk, fw, fp, fl, fm, fc, fn, fr, fm, fc, fn, fr, tc, ts, tl, tm, a1, a2, a3, a4, a5, a6, a7, a8, a9, a10, a11, a12, a13, a14, a15, a16, a17, a18, a19, b20, b21, b22, b23, b24)) :
    wpX_keep post (fk, fw, fp, fl, fm, fc, fn, fr, gm, gc, gn, gr, tc, ts, tl, tm, a1, a2, a3, a4, a5, a6, a7, a8, a9, a10, a11, a12, a13, a14, a15, a16, a17, a18, a19, a20, a21, a22, a23, a24) :=
  pk_loop (fun n i (s : (Nat → Int32) × (Nat → Int32) × (Nat → Int32)) => wX_keep_2 post fk fw fp fl fm fc fn fr gm gc gn gr tc ts tl tm n (nI i) a1 a2 a3 a4 a5 a6 a7 a8 a9 a10 a11 a12 a13 a14 a15 a16 a17 a18 a19 s.1 s.2.1 s.2.2 a23 a24) (fun i s => (∀ j, j < i → s.1 j = 0) ∧ (∀ j, j < i → s.2.1 j = -1000) ∧ (∀ j, j < i → s.2.2 j = 0)) 3 0 (a20, a21, a22) (by omega) ⟨fun j hj => absurd hj (by omega), fun j hj => absurd hj (by omega), fun j hj => absurd hj (by omega)⟩
    (fun n s hs => pk_le 3 3 (fun _ => sw_keep83 h8 h9 h (fun b23 b24 h23 h24 => hp s.1 s.2.1 s.2.2 b23 b24 hs.1 hs.2.1 hs.2.2 h23 h24)) (fun z => absurd z (by omega)))
    (fun n i s hi hs hw => pk_le 3 i (fun z => absurd z (by omega)) (fun _ =>
      ⟨pk_in i 3 hi, pk_in i 3 hi, nm_e ⟨pk_in i 3 hi, pk_in i 3 hi, nm_e ⟨pk_in i 3 hi, pk_in i 3 hi, nm_e (nm_r (nI_1 i)
      (hw (upd s.1 (nI i).toNatClampNeg (a5 (nI i).toNatClampNeg), upd s.2.1 (nI i).toNatClampNeg (a6 (nI i).toNatClampNeg), upd s.2.2 (nI i).toNatClampNeg (vp_nar .boolean (a7 (nI i).toNatClampNeg))) (by
        have e4 : (nI i).toNatClampNeg = i := nI_clamp (by omega)
        rw [e4]
        exact ⟨sw_fill3 hs.1 (h5 i hi), sw_fill3 hs.2.1 (h6 i hi), sw_fill3 hs.2.2 (by rw [h7 i hi]; rfl)⟩)))⟩⟩⟩))
theorem sw_crash275 {post : Int32 → St2 → Prop} {fk fw fp fl fm fc fn fr gm gc gn gr tc ts tl tm : Int32} {a1 a2 a3 a4 a5 a6 a7 a8 a9 a10 a11 a12 a13 a14 a15 a16 a17 a18 a19 a20 a21 a22 a23 a24 : Nat → Int32} (h : ∀ j, j < 4 → a24 (768 + j) = 0)
    (hp : ∀ b12, (∀ j, j < 4 → b12 j = 0) → post fr (fk, fw, fp, fl, fm, fc, fn, fr, gm, gc, gn, gr, tc, ts, tl, tm, a1, a2, a3, a4, a5, a6, a7, a8, a9, a10, a11, b12, a13, a14, a15, a16, a17, a18, a19, a20, a21, a22, a23, a24)) :
    ∃ n, wX_crash_275 post fk fw fp fl fm fc fn fr gm gc gn gr tc ts tl tm n 0 a1 a2 a3 a4 a5 a6 a7 a8 a9 a10 a11 a12 a13 a14 a15 a16 a17 a18 a19 a20 a21 a22 a23 a24 :=
  pk_loop (fun n i s => wX_crash_275 post fk fw fp fl fm fc fn fr gm gc gn gr tc ts tl tm n (nI i) a1 a2 a3 a4 a5 a6 a7 a8 a9 a10 a11 s a13 a14 a15 a16 a17 a18 a19 a20 a21 a22 a23 a24) (fun i s => ∀ j, j < i → s j = 0) 4 0 a12 (by omega) (fun j hj => absurd hj (by omega))
    (fun n s hs => pk_le 4 4 (fun _ => hp s hs) (fun z => absurd z (by omega)))
    (fun n i s hi hs hw => pk_le 4 i (fun z => absurd z (by omega)) (fun _ => ⟨pk_in (768 + i) 772 (by omega) (nI_add 768 i), pk_in i 4 hi, nm_e (nm_r (nI_1 i) (hw _ (by
      have e0 : (768 + nI i).toNatClampNeg = 768 + i := pk_cl (768 + i) (nI_add 768 i)
      have e1 : (nI i).toNatClampNeg = i := nI_clamp (by omega)
      rw [e0, e1]
      exact sw_fill3 hs (h i hi))))⟩))
theorem sw_crash160 {post : Int32 → St2 → Prop} {fk fw fp fl fm fc fn fr gm gc gn gr tc ts tl tm : Int32} {a1 a2 a3 a4 a5 a6 a7 a8 a9 a10 a11 a12 a13 a14 a15 a16 a17 a18 a19 a20 a21 a22 a23 a24 : Nat → Int32} (h : ∀ j, j < 4 → a24 (768 + j) = 0)
    (hp : ∀ b12 b13 b14 b15 b16 b17 b18, (∀ j, j < 4 → b12 j = 0) → post fr (fk, fw, fp, fl, fm, fc, fn, fr, gm, gc, gn, gr, tc, ts, tl, tm, a1, a2, a3, a4, a5, a6, a7, a8, a9, a10, a11, b12, b13, b14, b15, b16, b17, b18, a19, a20, a21, a22, a23, a24)) :
    ∃ n, wX_crash_160 post fk fw fp fl fm fc fn fr gm gc gn gr tc ts tl tm n 0 a1 a2 a3 a4 a5 a6 a7 a8 a9 a10 a11 a12 a13 a14 a15 a16 a17 a18 a19 a20 a21 a22 a23 a24 :=
  pk_loop (fun n i (s : (Nat → Int32) × (Nat → Int32) × (Nat → Int32) × (Nat → Int32) × (Nat → Int32) × (Nat → Int32)) => wX_crash_160 post fk fw fp fl fm fc fn fr gm gc gn gr tc ts tl tm n (nI i) a1 a2 a3 a4 a5 a6 a7 a8 a9 a10 a11 a12 s.1 s.2.1 s.2.2.1 s.2.2.2.1 s.2.2.2.2.1 s.2.2.2.2.2 a19 a20 a21 a22 a23 a24) (fun _ _ => True) 128 0 (a13, a14, a15, a16, a17, a18) (by omega) trivial
    (fun n s _ => pk_le 128 128 (fun _ => sw_crash275 h (fun b12 h12 => hp b12 _ _ _ _ _ _ h12)) (fun z => absurd z (by omega)))
    (fun n i s hi _ hw => pk_le 128 i (fun z => absurd z (by omega)) (fun _ =>
      ⟨pk_in (6 * i) 772 (by omega) (pk_mul 6 i), pk_in i 128 hi, nm_e
      ⟨pk_in (6 * i + 1) 772 (by omega) (sw_x 6 i 1), pk_in i 128 hi, nm_e
      ⟨pk_in (6 * i + 2) 772 (by omega) (sw_x 6 i 2), pk_in i 128 hi, nm_e
      ⟨pk_in (6 * i + 3) 772 (by omega) (sw_x 6 i 3), pk_in i 128 hi, nm_e
      ⟨pk_in (6 * i + 4) 772 (by omega) (sw_x 6 i 4), pk_in i 128 hi, nm_e
      ⟨pk_in (6 * i + 5) 772 (by omega) (sw_x 6 i 5), pk_in i 128 hi, nm_e
      (nm_r (nI_1 i) (hw (_, _, _, _, _, _) trivial))⟩⟩⟩⟩⟩⟩))
theorem sw_crash83 {post : Int32 → St2 → Prop} {fk fw fp fl fm fc fn fr gm gc gn gr tc ts tl tm : Int32} {a1 a2 a3 a4 a5 a6 a7 a8 a9 a10 a11 a12 a13 a14 a15 a16 a17 a18 a19 a20 a21 a22 a23 a24 : Nat → Int32} (h23 : ∀ j, j < 256 → a23 (4 * j) = 0 ∧ a23 (4 * j + 1) = 0) (h : ∀ j, j < 4 → a24 (768 + j) = 0)
    (hp : ∀ b8 b9 b10 b11 b12 b13 b14 b15 b16 b17 b18, (∀ j, j < 256 → b8 j = 0) → (∀ j, j < 256 → b9 j = 0) → (∀ j, j < 4 → b12 j = 0) → post fr (fk, fw, fp, fl, fm, fc, fn, fr, gm, gc, gn, gr, tc, ts, tl, tm, a1, a2, a3, a4, a5, a6, a7, b8, b9, b10, b11, b12, b13, b14, b15, b16, b17, b18, a19, a20, a21, a22, a23, a24)) :
    ∃ n, wX_crash_83 post fk fw fp fl fm fc fn fr gm gc gn gr tc ts tl tm n 0 a1 a2 a3 a4 a5 a6 a7 a8 a9 a10 a11 a12 a13 a14 a15 a16 a17 a18 a19 a20 a21 a22 a23 a24 :=
  pk_loop (fun n i (s : (Nat → Int32) × (Nat → Int32) × (Nat → Int32) × (Nat → Int32)) => wX_crash_83 post fk fw fp fl fm fc fn fr gm gc gn gr tc ts tl tm n (nI i) a1 a2 a3 a4 a5 a6 a7 s.1 s.2.1 s.2.2.1 s.2.2.2 a12 a13 a14 a15 a16 a17 a18 a19 a20 a21 a22 a23 a24) (fun i s => (∀ j, j < i → s.1 j = 0) ∧ (∀ j, j < i → s.2.1 j = 0)) 256 0 (a8, a9, a10, a11) (by omega) ⟨fun j hj => absurd hj (by omega), fun j hj => absurd hj (by omega)⟩
    (fun n s hs => pk_le 256 256 (fun _ => sw_crash160 h (fun b12 _ _ _ _ _ _ h12 => hp s.1 s.2.1 _ _ b12 _ _ _ _ _ _ hs.1 hs.2 h12)) (fun z => absurd z (by omega)))
    (fun n i s hi hs hw => pk_le 256 i (fun z => absurd z (by omega)) (fun _ =>
      ⟨pk_in (4 * i) 1024 (by omega) (pk_mul 4 i), pk_in i 256 hi, nm_e
      ⟨pk_in (4 * i + 1) 1024 (by omega) (sw_x 4 i 1), pk_in i 256 hi, nm_e
      ⟨pk_in (4 * i + 2) 1024 (by omega) (sw_x 4 i 2), pk_in i 256 hi, nm_e
      ⟨pk_in (4 * i + 3) 1024 (by omega) (sw_x 4 i 3), pk_in i 256 hi, nm_e
      (nm_r (nI_1 i) (hw (_, _, _, _) (by
        have e0 : (4 * nI i).toNatClampNeg = 4 * i := pk_cl (4 * i) (pk_mul 4 i)
        have e1 : (4 * nI i + 1).toNatClampNeg = 4 * i + 1 := pk_cl (4 * i + 1) (sw_x 4 i 1)
        have e4 : (nI i).toNatClampNeg = i := nI_clamp (by omega)
        rw [e0, e1, e4]
        exact ⟨sw_fill3 hs.1 (h23 i hi).1, sw_fill3 hs.2 (h23 i hi).2⟩)))⟩⟩⟩⟩))
theorem sw_crash {post : Int32 → St2 → Prop} {fk fw fp fl fm fc fn fr gm gc gn gr tc ts tl tm : Int32} {a1 a2 a3 a4 a5 a6 a7 a8 a9 a10 a11 a12 a13 a14 a15 a16 a17 a18 a19 a20 a21 a22 a23 a24 : Nat → Int32} (h20 : ∀ j, j < 3 → a20 j = 0 ∧ a21 j = -1000 ∧ a22 j = 0) (h23 : ∀ j, j < 256 → a23 (4 * j) = 0 ∧ a23 (4 * j + 1) = 0) (h : ∀ j, j < 4 → a24 (768 + j) = 0)
    (hp : ∀ b5 b6 b7 b8 b9 b10 b11 b12 b13 b14 b15 b16 b17 b18, (∀ j, j < 3 → b5 j = 0) → (∀ j, j < 3 → b6 j = -1000) → (∀ j, j < 3 → b7 j = 0) → (∀ j, j < 256 → b8 j = 0) → (∀ j, j < 256 → b9 j = 0) → (∀ j, j < 4 → b12 j = 0) → post gr (fk, fw, fp, fl, gm, gc, gn, gr, gm, gc, gn, gr, tc, ts, tl, tm, a1, a2, a3, a4, b5, b6, b7, b8, b9, b10, b11, b12, b13, b14, b15, b16, b17, b18, a19, a20, a21, a22, a23, a24)) :
    wpX_crash post (fk, fw, fp, fl, fm, fc, fn, fr, gm, gc, gn, gr, tc, ts, tl, tm, a1, a2, a3, a4, a5, a6, a7, a8, a9, a10, a11, a12, a13, a14, a15, a16, a17, a18, a19, a20, a21, a22, a23, a24) :=
  pk_loop (fun n i (s : (Nat → Int32) × (Nat → Int32) × (Nat → Int32)) => wX_crash_2 post fk fw fp fl fm fc fn fr gm gc gn gr tc ts tl tm n (nI i) a1 a2 a3 a4 s.1 s.2.1 s.2.2 a8 a9 a10 a11 a12 a13 a14 a15 a16 a17 a18 a19 a20 a21 a22 a23 a24) (fun i s => (∀ j, j < i → s.1 j = 0) ∧ (∀ j, j < i → s.2.1 j = -1000) ∧ (∀ j, j < i → s.2.2 j = 0)) 3 0 (a5, a6, a7) (by omega) ⟨fun j hj => absurd hj (by omega), fun j hj => absurd hj (by omega), fun j hj => absurd hj (by omega)⟩
    (fun n s hs => pk_le 3 3 (fun _ => sw_crash83 h23 h (fun b8 b9 _ _ b12 _ _ _ _ _ _ h8 h9 h12 => hp s.1 s.2.1 s.2.2 b8 b9 _ _ b12 _ _ _ _ _ _ hs.1 hs.2.1 hs.2.2 h8 h9 h12)) (fun z => absurd z (by omega)))
    (fun n i s hi hs hw => pk_le 3 i (fun z => absurd z (by omega)) (fun _ =>
      ⟨pk_in i 3 hi, pk_in i 3 hi, nm_e ⟨pk_in i 3 hi, pk_in i 3 hi, nm_e ⟨pk_in i 3 hi, pk_in i 3 hi, nm_e (nm_r (nI_1 i)
      (hw (upd s.1 (nI i).toNatClampNeg (a20 (nI i).toNatClampNeg), upd s.2.1 (nI i).toNatClampNeg (a21 (nI i).toNatClampNeg), upd s.2.2 (nI i).toNatClampNeg (vp_nar .boolean (a22 (nI i).toNatClampNeg))) (by
        have e4 : (nI i).toNatClampNeg = i := nI_clamp (by omega)
        rw [e4]
        exact ⟨sw_fill3 hs.1 (h20 i hi).1, sw_fill3 hs.2.1 (h20 i hi).2.1, sw_fill3 hs.2.2 (by rw [(h20 i hi).2.2]; rfl)⟩)))⟩⟩⟩))
end
section
theorem sw_nx {x : Int32} {w : Int} {i : Nat} (h : x = sw_i (w + i)) : x + 1 = sw_i (w + (i + 1 : Nat)) := by
  rw [h, sw_i1]
  exact congrArg sw_i (by omega)
/-- place q lies in the first i panes of window w of key y -/
def sw_hit (q y : Nat) (w : Int) (i : Nat) : Prop := 64 * (y : Int) + w ≤ q ∧ (q : Int) < 64 * y + w + i ∧ 64 * (y : Int) ≤ q ∧ (q : Int) < 64 * y + 64
theorem sw_addPane {post : St2 → Prop} {fk fw fp fl fm fc fn fr gm gc gn gr tc ts tl tm : Int32} {a1 a2 a3 a4 a5 a6 a7 a8 a9 a10 a11 a12 a13 a14 a15 a16 a17 a18 a19 a20 a21 a22 a23 a24 : Nat → Int32} (m : Nat) (hm : m < 256) (h0 : tc = 0) (hp : ∀ d1 d2, post (fk, fw, fp, fl, fm, fc, fn, fr, gm, gc, gn, gr, tc + a8 m, ts + a9 m, d1, d2, a1, a2, a3, a4, a5, a6, a7, a8, a9, a10, a11, a12, a13, a14, a15, a16, a17, a18, a19, a20, a21, a22, a23, a24)) : wpX_addPane post (fk, fw, fp, fl, fm, fc, fn, fr, gm, gc, gn, gr, tc, ts, tl, tm, a1, a2, a3, a4, a5, a6, a7, a8, a9, a10, a11, a12, a13, a14, a15, a16, a17, a18, a19, a20, a21, a22, a23, a24) (nI m) := by
  have e : (nI m).toNatClampNeg = m := nI_clamp (by omega)
  refine br_t h0 ?_
  unfold wX_addPane_21
  refine ⟨pk_in m 256 hm, ?_⟩
  unfold wX_addPane_34
  refine br_t h0 ?_
  unfold wX_addPane_58
  refine ⟨pk_in m 256 hm, ?_⟩
  unfold wX_addPane_71
  rw [e]
  exact ⟨pk_in m 256 hm, nm_e ⟨pk_in m 256 hm, nm_e (hp _ _)⟩⟩
theorem sw_put {post : St2 → Prop} {fk fw fp fl fm fc fn fr gm gc gn gr tc ts tl tm : Int32} {a1 a2 a3 a4 a5 a6 a7 a8 a9 a10 a11 a12 a13 a14 a15 a16 a17 a18 a19 a20 a21 a22 a23 a24 : Nat → Int32} {pn y q : Nat} {w : Int} {v : Int32} (hpn : pn ≤ 4) (hfp : fp = nI pn) (hy : y < 4) (hw : -3 ≤ w ∧ w ≤ 63)
    (h8 : ∀ j, j < 256 → a8 j = if j = q then 1 else 0) (h9 : ∀ j, j < 256 → a9 j = if j = q then v else 0)
    (hp : ∀ c1 c2 c3 c4, (sw_hit q y w pn → c1 = 1 ∧ c2 = v) → (¬ sw_hit q y w pn → c1 = 0 ∧ c2 = 0) → post (fk, fw, fp, fl, fm, fc, fn, fr, gm, gc, gn, gr, c1, c2, c3, c4, a1, a2, a3, a4, a5, a6, a7, a8, a9, a10, a11, a12, a13, a14, a15, a16, a17, a18, a19, a20, a21, a22, a23, a24)) :
    wpX_putTogether post (fk, fw, fp, fl, fm, fc, fn, fr, gm, gc, gn, gr, tc, ts, tl, tm, a1, a2, a3, a4, a5, a6, a7, a8, a9, a10, a11, a12, a13, a14, a15, a16, a17, a18, a19, a20, a21, a22, a23, a24) (sw_i w) (nI y) := by
  have main : ∃ n, ∀ x, x = sw_i (w + (0 : Nat)) → wX_putTogether_22 post (sw_i w) (nI y) n x fk fw fp fl fm fc fn fr gm gc gn gr 0 0 0 0 a1 a2 a3 a4 a5 a6 a7 a8 a9 a10 a11 a12 a13 a14 a15 a16 a17 a18 a19 a20 a21 a22 a23 a24 := by
    refine pk_loop (fun n i (s : Int32 × Int32 × Int32 × Int32) => ∀ x, x = sw_i (w + (i : Nat)) → wX_putTogether_22 post (sw_i w) (nI y) n x fk fw fp fl fm fc fn fr gm gc gn gr s.1 s.2.1 s.2.2.1 s.2.2.2 a1 a2 a3 a4 a5 a6 a7 a8 a9 a10 a11 a12 a13 a14 a15 a16 a17 a18 a19 a20 a21 a22 a23 a24) (fun i s => (sw_hit q y w i → s.1 = 1 ∧ s.2.1 = v) ∧ (¬ sw_hit q y w i → s.1 = 0 ∧ s.2.1 = 0)) pn 0 (0, 0, 0, 0) (by omega) ⟨fun h => by unfold sw_hit at h; omega, fun _ => ⟨rfl, rfl⟩⟩ ?_ ?_
    · intro n s hs x hx
      refine sw_le (w + pn) (w + pn) (by rw [hfp, sw_in, sw_ia]) hx (fun _ => hp _ _ _ _ hs.1 hs.2) (fun z => absurd z (by omega))
    · intro n i s hi hs hn x hx
      refine sw_le (w + pn) (w + i) (by rw [hfp, sw_in, sw_ia]) hx (fun z => absurd z (by omega)) (fun _ => ?_)
      have keep : (sw_hit q y w (i + 1) ↔ sw_hit q y w i) → wX_putTogether_22 post (sw_i w) (nI y) n (x + 1) fk fw fp fl fm fc fn fr gm gc gn gr s.1 s.2.1 s.2.2.1 s.2.2.2 a1 a2 a3 a4 a5 a6 a7 a8 a9 a10 a11 a12 a13 a14 a15 a16 a17 a18 a19 a20 a21 a22 a23 a24 := fun h => hn s ⟨fun g => hs.1 (h.mp g), fun g => hs.2 (fun g' => g (h.mpr g'))⟩ (x + 1) (sw_nx hx)
      refine sw_lt (w + i) 0 hx rfl (fun hneg => nm_e (keep (by unfold sw_hit; omega))) (fun hge => ?_)
      refine sw_le 64 (w + i) rfl hx (fun hbig => nm_e (keep (by unfold sw_hit; omega))) (fun hlt => ?_)
      have em : 64 * nI y + x = nI (64 * y + (w + i).toNat) := by
        rw [hx, sw_iN hge]
        exact sw_x 64 y _
      have hm : 64 * y + (w + i).toNat < 256 := by omega
      rw [em]
      refine ⟨pk_in _ 256 hm, ?_⟩
      have e : (nI (64 * y + (w + i).toNat)).toNatClampNeg = 64 * y + (w + i).toNat := nI_clamp (by omega)
      rw [e]
      by_cases g : 64 * y + (w + i).toNat = q
      · have hno : ¬ sw_hit q y w i := by unfold sw_hit; omega
        refine br_f (by rw [h8 _ hm, if_pos g]; decide) ?_
        refine sw_addPane _ hm (hs.2 hno).1 (fun d1 d2 => nm_e (hn (s.1 + a8 (64 * y + (w + i).toNat), s.2.1 + a9 (64 * y + (w + i).toNat), d1, d2) ⟨fun _ => ?_, fun z => absurd (show sw_hit q y w (i + 1) by unfold sw_hit; omega) z⟩ (x + 1) (sw_nx hx)))
        show s.1 + a8 (64 * y + (w + i).toNat) = 1 ∧ s.2.1 + a9 (64 * y + (w + i).toNat) = v
        rw [(hs.2 hno).1, (hs.2 hno).2, h8 _ hm, h9 _ hm, if_pos g, if_pos g]
        exact ⟨rfl, Int32.zero_add v⟩
      · refine br_t (by rw [h8 _ hm, if_neg g]; decide) (nm_e (keep (by unfold sw_hit; omega)))
  obtain ⟨n, h⟩ := main
  exact ⟨n, h (sw_i w) (congrArg sw_i (by omega))⟩
theorem sw_rng {z : Int} {wd : Nat} (hz : -1000 ≤ z ∧ z ≤ 1000) (hw : wd ≤ 8) : -1000000 ≤ z * wd ∧ z * wd ≤ 1000000 := by
  have : wd = 0 ∨ wd = 1 ∨ wd = 2 ∨ wd = 3 ∨ wd = 4 ∨ wd = 5 ∨ wd = 6 ∨ wd = 7 ∨ wd = 8 := by omega
  rcases this with h | h | h | h | h | h | h | h | h <;> subst h <;> omega
theorem sw_dle {z mk : Int} {wd : Nat} (hw : 1 ≤ wd) : z * wd ≤ mk ↔ z ≤ mk / wd := (Int.le_ediv_iff_mul_le (by omega)).symm
theorem sw_drng {mk : Int} {wd : Nat} (hw : 1 ≤ wd ∧ wd ≤ 8) (h : -1000 ≤ mk ∧ mk ≤ 63) : -1000 ≤ mk / wd ∧ mk / wd ≤ 63 := by
  have : wd = 1 ∨ wd = 2 ∨ wd = 3 ∨ wd = 4 ∨ wd = 5 ∨ wd = 6 ∨ wd = 7 ∨ wd = 8 := by omega
  rcases this with h | h | h | h | h | h | h | h <;> subst h <;> omega
theorem sw_cw26 {post : St2 → Prop} {J : Int32 → Int32 → Int32 → Int32 → Int32 → Int32 → Int32 → Int32 → Int32 → Int32 → Int32 → Int32 → Int32 → Int32 → Int32 → Int32 → (Nat → Int32) → (Nat → Int32) → (Nat → Int32) → (Nat → Int32) → (Nat → Int32) → (Nat → Int32) → (Nat → Int32) → (Nat → Int32) → (Nat → Int32) → (Nat → Int32) → (Nat → Int32) → (Nat → Int32) → (Nat → Int32) → (Nat → Int32) → (Nat → Int32) → (Nat → Int32) → (Nat → Int32) → (Nat → Int32) → (Nat → Int32) → (Nat → Int32) → (Nat → Int32) → (Nat → Int32) → (Nat → Int32) → (Nat → Int32) → Prop} {fk fw fp fl fm fc fn fr gm gc gn gr tc ts tl tm : Int32} {a1 a2 a3 a4 a5 a6 a7 a8 a9 a10 a11 a12 a13 a14 a15 a16 a17 a18 a19 a20 a21 a22 a23 a24 : Nat → Int32} {pn q : Nat} {w : Int} {v : Int32} (hpn : pn ≤ 4) (hfp : fp = nI pn) (hfn : fn = sw_i w) (hw : -3 ≤ w ∧ w ≤ 63)
    (h8 : ∀ j, j < 256 → a8 j = if j = q then 1 else 0) (h9 : ∀ j, j < 256 → a9 j = if j = q then v else 0) (hno : ∀ y, y < 4 → ¬ sw_hit q y w pn)
    (hp : ∀ c1 c2 c3 c4, J fk fw fp fl fm fc (fn + 1) fr gm gc gn gr c1 c2 c3 c4 a1 a2 a3 a4 a5 a6 a7 a8 a9 a10 a11 a12 a13 a14 a15 a16 a17 a18 a19 a20 a21 a22 a23 a24) :
    ∃ n, wX_closeWindows_26 post J n 0 fk fw fp fl fm fc fn fr gm gc gn gr tc ts tl tm a1 a2 a3 a4 a5 a6 a7 a8 a9 a10 a11 a12 a13 a14 a15 a16 a17 a18 a19 a20 a21 a22 a23 a24 :=
  pk_loop (fun n i (s : Int32 × Int32 × Int32 × Int32) => wX_closeWindows_26 post J n (nI i) fk fw fp fl fm fc fn fr gm gc gn gr s.1 s.2.1 s.2.2.1 s.2.2.2 a1 a2 a3 a4 a5 a6 a7 a8 a9 a10 a11 a12 a13 a14 a15 a16 a17 a18 a19 a20 a21 a22 a23 a24) (fun _ _ => True) 4 0 (tc, ts, tl, tm) (by omega) trivial
    (fun n s _ => pk_le 4 4 (fun _ => nm_e (hp _ _ _ _)) (fun z => absurd z (by omega)))
    (fun n i s hi _ hn => pk_le 4 i (fun z => absurd z (by omega)) (fun _ => by
      subst hfn
      refine sw_put hpn hfp hi hw h8 h9 (fun c1 c2 c3 c4 _ hc => ?_)
      refine br_t (by rw [(hc (hno i hi)).1]; decide) (nm_r (nI_1 i) (hn (c1, c2, c3, c4) trivial))))
theorem sw_cw {post : St2 → Prop} {fk fw fp fl fm fc fn fr gm gc gn gr tc ts tl tm : Int32} {a1 a2 a3 a4 a5 a6 a7 a8 a9 a10 a11 a12 a13 a14 a15 a16 a17 a18 a19 a20 a21 a22 a23 a24 : Nat → Int32} {wd pn q : Nat} {mk nw : Int} {v : Int32} (hwd : 1 ≤ wd ∧ wd ≤ 8) (hpn : 1 ≤ pn ∧ pn ≤ 4) (hfw : fw = nI wd) (hfp : fp = nI pn) (hfm : fm = sw_i mk) (hfn : fn = sw_i nw)
    (hnw : -3 ≤ nw ∧ nw ≤ 63) (hmk : -1000 ≤ mk ∧ mk ≤ 63)
    (h8 : ∀ j, j < 256 → a8 j = if j = q then 1 else 0) (h9 : ∀ j, j < 256 → a9 j = if j = q then v else 0)
    (hq : q = 256 ∨ ∃ k p : Nat, p < 64 ∧ q = 64 * k + p ∧ mk / wd ≤ p)
    (hp : ∀ c1 c2 c3 c4, post (fk, fw, fp, fl, fm, fc, sw_i (max nw (mk / wd - pn + 1)), fr, gm, gc, gn, gr, c1, c2, c3, c4, a1, a2, a3, a4, a5, a6, a7, a8, a9, a10, a11, a12, a13, a14, a15, a16, a17, a18, a19, a20, a21, a22, a23, a24)) :
    wpX_closeWindows post (fk, fw, fp, fl, fm, fc, fn, fr, gm, gc, gn, gr, tc, ts, tl, tm, a1, a2, a3, a4, a5, a6, a7, a8, a9, a10, a11, a12, a13, a14, a15, a16, a17, a18, a19, a20, a21, a22, a23, a24) := by
  have hd := sw_drng hwd hmk
  have main : ∃ n, ∀ x, x = sw_i (nw + (0 : Nat)) → wX_closeWindows_0 post n fk fw fp fl fm fc x fr gm gc gn gr tc ts tl tm a1 a2 a3 a4 a5 a6 a7 a8 a9 a10 a11 a12 a13 a14 a15 a16 a17 a18 a19 a20 a21 a22 a23 a24 := by
    refine pk_loop (fun n i (s : Int32 × Int32 × Int32 × Int32) => ∀ x, x = sw_i (nw + (i : Nat)) → wX_closeWindows_0 post n fk fw fp fl fm fc x fr gm gc gn gr s.1 s.2.1 s.2.2.1 s.2.2.2 a1 a2 a3 a4 a5 a6 a7 a8 a9 a10 a11 a12 a13 a14 a15 a16 a17 a18 a19 a20 a21 a22 a23 a24) (fun _ _ => True) (max nw (mk / wd - pn + 1) - nw).toNat 0 (tc, ts, tl, tm) (by omega) trivial ?_ ?_
    · intro n s _ x hx
      have ez : nw + ((max nw (mk / wd - pn + 1) - nw).toNat : Nat) = max nw (mk / wd - pn + 1) := by omega
      rw [ez] at hx
      have hx' := hx
      generalize hz : max nw (mk / wd - pn + 1) = z at hx hp
      have zr : -3 ≤ z ∧ z ≤ 64 ∧ mk / wd < z + pn := by omega
      subst hx
      refine sw_le 64 z rfl rfl (fun _ => hp _ _ _ _) (fun _ => ?_)
      refine sw_lt mk ((z + pn) * wd) hfm (by rw [hfp, hfw, sw_in, sw_in, sw_ia, sw_im]) (fun _ => hp _ _ _ _) (fun g => absurd ((sw_dle hwd.1).mp g) (by omega)) (by omega) (sw_rng (by omega) hwd.2)
    · intro n i s hi _ hn x hx
      refine sw_le 64 (nw + i) rfl hx (fun g => absurd g (by omega)) (fun _ => ?_)
      refine sw_lt mk ((nw + i + pn) * wd) hfm (by rw [hfp, hfw, hx, sw_in, sw_in, sw_ia, sw_im]) (fun g => absurd ((sw_dle hwd.1).mpr (show nw + i + pn ≤ mk / wd by omega)) (by omega)) (fun g => ?_) (by omega) (sw_rng (by omega) hwd.2)
      refine sw_cw26 (w := nw + i) hpn.2 hfp hx (by omega) h8 h9 (fun y hy => ?_) (fun c1 c2 c3 c4 => hn (c1, c2, c3, c4) trivial (x + 1) (sw_nx hx))
      unfold sw_hit
      rcases hq with hq | ⟨k, p, h1, h2, h3⟩
      · omega
      · have : y = k ∨ y < k ∨ k < y := by omega
        omega
  obtain ⟨n, h⟩ := main
  refine ⟨n, ?_⟩
  subst hfn
  exact h _ (congrArg sw_i (by omega))
theorem sw_open33 {post : Int32 → St2 → Prop} {fk fw fp fl fm fc fn fr gm gc gn gr tc ts tl tm : Int32} {a1 a2 a3 a4 a5 a6 a7 a8 a9 a10 a11 a12 a13 a14 a15 a16 a17 a18 a19 a20 a21 a22 a23 a24 : Nat → Int32} {pn y q : Nat} {nw : Int} {v : Int32} (c : Nat → Int) (hpn : pn ≤ 4) (hfp : fp = nI pn) (hy : y < 4) (hfn : fn = sw_i nw) (hnw : -3 ≤ nw ∧ nw ≤ 63)
    (h8 : ∀ j, j < 256 → a8 j = if j = q then 1 else 0) (h9 : ∀ j, j < 256 → a9 j = if j = q then v else 0)
    (hc0 : c 0 = 0) (hc1 : ∀ i : Nat, nw + i < 64 → sw_hit q y (nw + i) pn → c (i + 1) = c i + 1) (hc2 : ∀ i : Nat, nw + i < 64 → ¬ sw_hit q y (nw + i) pn → c (i + 1) = c i)
    (hp : ∀ c1 c2 c3 c4, post (sw_i (c (64 - nw).toNat)) (fk, fw, fp, fl, fm, fc, fn, fr, gm, gc, gn, gr, c1, c2, c3, c4, a1, a2, a3, a4, a5, a6, a7, a8, a9, a10, a11, a12, a13, a14, a15, a16, a17, a18, a19, a20, a21, a22, a23, a24)) :
    ∃ n, wX_open_33 post (nI y) n 0 fn fk fw fp fl fm fc fn fr gm gc gn gr tc ts tl tm a1 a2 a3 a4 a5 a6 a7 a8 a9 a10 a11 a12 a13 a14 a15 a16 a17 a18 a19 a20 a21 a22 a23 a24 := by
  have main : ∃ n, ∀ x z, x = sw_i (nw + (0 : Nat)) → z = sw_i (c 0) → wX_open_33 post (nI y) n z x fk fw fp fl fm fc fn fr gm gc gn gr tc ts tl tm a1 a2 a3 a4 a5 a6 a7 a8 a9 a10 a11 a12 a13 a14 a15 a16 a17 a18 a19 a20 a21 a22 a23 a24 := by
    refine pk_loop (fun n i (s : Int32 × Int32 × Int32 × Int32) => ∀ x z, x = sw_i (nw + (i : Nat)) → z = sw_i (c i) → wX_open_33 post (nI y) n z x fk fw fp fl fm fc fn fr gm gc gn gr s.1 s.2.1 s.2.2.1 s.2.2.2 a1 a2 a3 a4 a5 a6 a7 a8 a9 a10 a11 a12 a13 a14 a15 a16 a17 a18 a19 a20 a21 a22 a23 a24) (fun _ _ => True) (64 - nw).toNat 0 (tc, ts, tl, tm) (by omega) trivial ?_ ?_
    · intro n s _ x z hx hz
      refine sw_le 64 (nw + ((64 - nw).toNat : Nat)) rfl hx (fun _ => ?_) (fun g => absurd g (by omega))
      subst hz
      exact hp _ _ _ _
    · intro n i s hi _ hn x z hx hz
      refine sw_le 64 (nw + i) rfl hx (fun g => absurd g (by omega)) (fun _ => ?_)
      have hx' := hx
      subst hx
      refine sw_put hpn hfp hy (by omega) h8 h9 (fun c1 c2 c3 c4 g1 g2 => ?_)
      by_cases g : sw_hit q y (nw + i) pn
      · refine br_f (by rw [(g1 g).1]; decide) (nm_e (nm_e (hn (c1, c2, c3, c4) trivial _ _ (sw_nx hx') ?_)))
        rw [hz, hc1 i (by omega) g, sw_i1]
      · refine br_t (by rw [(g2 g).1]; decide) (nm_e (nm_e (hn (c1, c2, c3, c4) trivial _ _ (sw_nx hx') ?_)))
        rw [hz, hc2 i (by omega) g, Int32.add_zero]
  obtain ⟨n, h⟩ := main
  exact ⟨n, h fn 0 (by rw [hfn]; exact congrArg sw_i (by omega)) (by rw [hc0]; rfl)⟩
theorem sw_pend45 {post : Int32 → St2 → Prop} {fk fw fp fl fm fc fn fr gm gc gn gr tc ts tl tm : Int32} {a1 a2 a3 a4 a5 a6 a7 a8 a9 a10 a11 a12 a13 a14 a15 a16 a17 a18 a19 a20 a21 a22 a23 a24 : Nat → Int32} {pn y q e : Nat} {nw : Int} {v r : Int32} (hpn : pn ≤ 4) (hfp : fp = nI pn) (hy : y < 4) (hfn : fn = sw_i nw) (hnw : -3 ≤ nw ∧ nw ≤ 63)
    (h8 : ∀ j, j < 256 → a8 j = if j = q then 1 else 0) (h9 : ∀ j, j < 256 → a9 j = if j = q then v else 0)
    (he : ∀ i : Nat, i < e → nw + i < 64 ∧ ¬ sw_hit q y (nw + i) pn) (hr : (nw + e = 64 ∧ r = 0) ∨ (nw + e < 64 ∧ sw_hit q y (nw + e) pn ∧ r = v))
    (hp : ∀ c1 c2 c3 c4, post r (fk, fw, fp, fl, fm, fc, fn, fr, gm, gc, gn, gr, c1, c2, c3, c4, a1, a2, a3, a4, a5, a6, a7, a8, a9, a10, a11, a12, a13, a14, a15, a16, a17, a18, a19, a20, a21, a22, a23, a24)) :
    ∃ n, wX_pending_45 post (nI y) n fn fk fw fp fl fm fc fn fr gm gc gn gr tc ts tl tm a1 a2 a3 a4 a5 a6 a7 a8 a9 a10 a11 a12 a13 a14 a15 a16 a17 a18 a19 a20 a21 a22 a23 a24 := by
  have main : ∃ n, ∀ x, x = sw_i (nw + (0 : Nat)) → wX_pending_45 post (nI y) n x fk fw fp fl fm fc fn fr gm gc gn gr tc ts tl tm a1 a2 a3 a4 a5 a6 a7 a8 a9 a10 a11 a12 a13 a14 a15 a16 a17 a18 a19 a20 a21 a22 a23 a24 := by
    refine pk_loop (fun n i (s : Int32 × Int32 × Int32 × Int32) => ∀ x, x = sw_i (nw + (i : Nat)) → wX_pending_45 post (nI y) n x fk fw fp fl fm fc fn fr gm gc gn gr s.1 s.2.1 s.2.2.1 s.2.2.2 a1 a2 a3 a4 a5 a6 a7 a8 a9 a10 a11 a12 a13 a14 a15 a16 a17 a18 a19 a20 a21 a22 a23 a24) (fun _ _ => True) e 0 (tc, ts, tl, tm) (by omega) trivial ?_ ?_
    · intro n s _ x hx
      rcases hr with ⟨h1, h2⟩ | ⟨h1, h2, h3⟩
      · refine sw_le 64 (nw + e) rfl hx (fun _ => ?_) (fun g => absurd g (by omega))
        subst h2
        exact hp _ _ _ _
      · refine sw_le 64 (nw + e) rfl hx (fun g => absurd g (by omega)) (fun _ => ?_)
        subst hx
        refine sw_put hpn hfp hy (by omega) h8 h9 (fun c1 c2 c3 c4 g1 _ => ?_)
        refine br_f (by rw [(g1 h2).1]; decide) ?_
        have e2 : c2 = r := by rw [(g1 h2).2, h3]
        subst e2
        exact hp _ _ _ _
    · intro n i s hi _ hn x hx
      have hi' := he i hi
      refine sw_le 64 (nw + i) rfl hx (fun g => absurd g (by omega)) (fun _ => ?_)
      have hx' := hx
      subst hx
      refine sw_put hpn hfp hy (by omega) h8 h9 (fun c1 c2 c3 c4 _ g2 => ?_)
      exact br_t (by rw [(g2 hi'.2).1]; decide) (nm_e (hn (c1, c2, c3, c4) trivial _ (sw_nx hx')))
  obtain ⟨n, h⟩ := main
  exact ⟨n, h fn (by rw [hfn]; exact congrArg sw_i (by omega))⟩
end
section
theorem sw_takeP {post : St2 → Prop} {fk fw fp fl fm fc fn fr gm gc gn gr tc ts tl tm : Int32} {a1 a2 a3 a4 a5 a6 a7 a8 a9 a10 a11 a12 a13 a14 a15 a16 a17 a18 a19 a20 a21 a22 a23 a24 : Nat → Int32} {wd pn t k : Nat} {v : Int32} (hwd : 1 ≤ wd ∧ wd ≤ 8) (hpn : 1 ≤ pn ∧ pn ≤ 4) (ht : t < 64) (hk : k < 4) (hfw : fw = nI wd) (hfp : fp = nI pn) (hfm : fm = sw_i (-1000))
    (h8 : a8 (64 * k + t / wd) = 0)
    (hp : ∀ b10 b11, post (fk, fw, fp, fl, fm, fc, fn, fr, gm, gc, gn, gr, tc, ts, tl, tm, a1, a2, a3, a4, a5, a6, a7, upd a8 (64 * k + t / wd) 1, upd a9 (64 * k + t / wd) (a9 (64 * k + t / wd) + v), b10, b11, a12, a13, a14, a15, a16, a17, a18, a19, a20, a21, a22, a23, a24)) :
    wpX_takeIntoPane post (fk, fw, fp, fl, fm, fc, fn, fr, gm, gc, gn, gr, tc, ts, tl, tm, a1, a2, a3, a4, a5, a6, a7, a8, a9, a10, a11, a12, a13, a14, a15, a16, a17, a18, a19, a20, a21, a22, a23, a24) (nI t) (nI k) v := by
  have hd : t / wd < 64 := Nat.lt_of_le_of_lt (Nat.div_le_self _ _) ht
  have hm : 64 * k + t / wd < 256 := by omega
  have e : (nI (64 * k + t / wd)).toNatClampNeg = 64 * k + t / wd := nI_clamp (by omega)
  have i1 : vp_in (nI (64 * k + t / wd)) 256 := pk_in _ 256 hm
  refine ⟨by rw [hfw]; exact nI_ne0 (by omega) (by omega), nm_r (e' := nI (t / wd)) (by rw [hfw, pk_div (by omega) (by omega) (by omega)]) ?_⟩
  have hpos : (1 : Int) ≤ (((t / wd : Nat) : Int) + pn) * wd := by
    have h0 : (0 : Int) ≤ ((t / wd : Nat) : Int) := Int.natCast_nonneg _
    have h1 : (1 : Int) ≤ ((t / wd : Nat) : Int) + pn := by omega
    have h2 : (1 : Int) ≤ wd := by omega
    calc (1 : Int) = 1 * 1 := rfl
      _ ≤ (((t / wd : Nat) : Int) + pn) * wd := Int.mul_le_mul h1 h2 (by omega) (by omega)
  refine sw_lt (-1000) ((((t / wd : Nat) : Int) + pn) * wd) hfm (by rw [hfp, hfw, sw_in, sw_in, sw_in, sw_ia, sw_im]) (fun _ => ?_) (fun g => absurd g (by omega)) (by omega) (sw_rng (by omega) hwd.2)
  refine nm_r (e' := nI (64 * k + t / wd)) (sw_x 64 k (t / wd)) ⟨i1, ?_⟩
  rw [e]
  refine br_t h8 ?_
  unfold wX_takeIntoPane_68 wX_takeIntoPane_79
  rw [e]
  refine ⟨i1, nm_e ⟨i1, br_t h8 ?_⟩⟩
  unfold wX_takeIntoPane_107 wX_takeIntoPane_118
  rw [e]
  exact ⟨i1, nm_e ⟨i1, i1, nm_r (e' := upd a8 (64 * k + t / wd) 1) (by rw [h8]; rfl) ⟨i1, i1, nm_e (hp _ _)⟩⟩⟩
theorem sw_takeS {post : St2 → Prop} {fk fw fp fl fm fc fn fr gm gc gn gr tc ts tl tm : Int32} {a1 a2 a3 a4 a5 a6 a7 a8 a9 a10 a11 a12 a13 a14 a15 a16 a17 a18 a19 a20 a21 a22 a23 a24 : Nat → Int32} {wd t k : Nat} {v : Int32} (hwd : 1 ≤ wd ∧ wd ≤ 8) (ht : t < 64) (hk : k < 4) (hfw : fw = nI wd) (hfm : fm = sw_i (-1000))
    (h12 : a12 k = 0)
    (hp : ∀ b13 b15 b17 b18, post (fk, fw, fp, fl, fm, fc, fn, fr, gm, gc, gn, gr, tc, ts, tl, tm, a1, a2, a3, a4, a5, a6, a7, a8, a9, a10, a11, upd a12 k 1, b13, upd a14 (32 * k) (nI t), b15, upd a16 (32 * k) v, b17, b18, a19, a20, a21, a22, a23, a24)) :
    wpX_takeIntoSession post (fk, fw, fp, fl, fm, fc, fn, fr, gm, gc, gn, gr, tc, ts, tl, tm, a1, a2, a3, a4, a5, a6, a7, a8, a9, a10, a11, a12, a13, a14, a15, a16, a17, a18, a19, a20, a21, a22, a23, a24) (nI t) (nI k) v := by
  have e : (nI k).toNatClampNeg = k := nI_clamp (by omega)
  have e2 : (nI (32 * k)).toNatClampNeg = 32 * k := nI_clamp (by omega)
  have ik : vp_in (nI k) 4 := pk_in k 4 hk
  have i1 : vp_in (nI (32 * k)) 128 := pk_in (32 * k) 128 (by omega)
  have es : nI (32 * k) + a12 k = nI (32 * k) := by rw [h12, Int32.add_zero]
  have em : 32 * nI k = nI (32 * k) := pk_mul 32 k
  refine nm_r (e' := nI (32 * k)) (pk_mul 32 k) ⟨ik, ?_⟩
  rw [e]
  refine nm_r (e' := nI (32 * k)) es ⟨1, ?_⟩
  refine pk_le (32 * k) (32 * k) (fun _ => ?_) (fun z => absurd z (by omega))
  unfold wX_takeIntoSession_46
  refine pk_le (32 * k) (32 * k) (fun _ => ?_) (fun z => absurd z (by omega))
  unfold wX_takeIntoSession_73 wX_takeIntoSession_74
  refine br_t rfl ?_
  refine sw_lt (-1000) ((t : Int) + wd) hfm (by rw [hfw, sw_in, sw_in, sw_ia]) (fun _ => ?_) (fun g => absurd g (by omega))
  unfold wX_takeIntoSession_105
  refine br_t rfl ?_
  refine ⟨ik, ?_⟩
  rw [e, em]
  refine nm_r (e' := nI (32 * k)) es ⟨1, ?_⟩
  refine pk_le (32 * k) (32 * k) (fun _ => ?_) (fun z => absurd z (by omega))
  rw [e, e2]
  exact ⟨ik, ik, nm_r (e' := upd a12 k 1) (by rw [h12]; rfl) ⟨i1, nm_e ⟨i1, nm_e ⟨i1, nm_e ⟨i1, nm_e ⟨i1, nm_e ⟨i1, nm_e (hp _ _ _ _)⟩⟩⟩⟩⟩⟩⟩
theorem sw_ending {post : Int32 → Prop} {fk fw fp fl fm fc fn fr gm gc gn gr tc ts tl tm : Int32} {a1 a2 a3 a4 a5 a6 a7 a8 a9 a10 a11 a12 a13 a14 a15 a16 a17 a18 a19 a20 a21 a22 a23 a24 : Nat → Int32} (h : ∀ y, y < 4 → a12 y ≤ 0 ∨ (¬ a12 y ≤ 0 ∧ fm < a14 (32 * y) + fw)) (hp : post (-1)) : wpX_nextEnding post (fk, fw, fp, fl, fm, fc, fn, fr, gm, gc, gn, gr, tc, ts, tl, tm, a1, a2, a3, a4, a5, a6, a7, a8, a9, a10, a11, a12, a13, a14, a15, a16, a17, a18, a19, a20, a21, a22, a23, a24) :=
  pk_loop (σ := Unit) (fun n i _ => wX_nextEnding_4 post fk fw fp fl fm fc fn fr gm gc gn gr tc ts tl tm a1 a2 a3 a4 a5 a6 a7 a8 a9 a10 a11 a12 a13 a14 a15 a16 a17 a18 a19 a20 a21 a22 a23 a24 n (-1) (nI i)) (fun _ _ => True) 4 0 () (by omega) trivial
    (fun n _ _ => pk_le 4 4 (fun _ => hp) (fun z => absurd z (by omega)))
    (fun n i _ hi _ hn => pk_le 4 i (fun z => absurd z (by omega)) (fun _ => ⟨pk_in i 4 hi, by
      have e : (nI i).toNatClampNeg = i := nI_clamp (by omega)
      have e2 : (32 * nI i).toNatClampNeg = 32 * i := pk_cl (32 * i) (pk_mul 32 i)
      have go : wX_nextEnding_43 post (wX_nextEnding_4 post fk fw fp fl fm fc fn fr gm gc gn gr tc ts tl tm a1 a2 a3 a4 a5 a6 a7 a8 a9 a10 a11 a12 a13 a14 a15 a16 a17 a18 a19 a20 a21 a22 a23 a24 n) (-1) (nI i) fk fw fp fl fm fc fn fr gm gc gn gr tc ts tl tm a1 a2 a3 a4 a5 a6 a7 a8 a9 a10 a11 a12 a13 a14 a15 a16 a17 a18 a19 a20 a21 a22 a23 a24 := by
        unfold wX_nextEnding_43 wX_nextEnding_44
        exact br_t rfl (nm_r (nI_1 i) (hn () trivial))
      rw [e]
      rcases h i hi with g | ⟨g, g2⟩
      · exact br_t g go
      · refine br_f g ⟨pk_in (32 * i) 128 (by omega) (pk_mul 32 i), ?_⟩
        rw [e2]
        exact br_t g2 go⟩))
theorem sw_cs {post : St2 → Prop} {fk fw fp fl fm fc fn fr gm gc gn gr tc ts tl tm : Int32} {a1 a2 a3 a4 a5 a6 a7 a8 a9 a10 a11 a12 a13 a14 a15 a16 a17 a18 a19 a20 a21 a22 a23 a24 : Nat → Int32} (h : ∀ y, y < 4 → a12 y ≤ 0 ∨ (¬ a12 y ≤ 0 ∧ fm < a14 (32 * y) + fw)) (hp : post (fk, fw, fp, fl, fm, fc, fn, fr, gm, gc, gn, gr, tc, ts, tl, tm, a1, a2, a3, a4, a5, a6, a7, a8, a9, a10, a11, a12, a13, a14, a15, a16, a17, a18, a19, a20, a21, a22, a23, a24)) : wpX_closeSessions post (fk, fw, fp, fl, fm, fc, fn, fr, gm, gc, gn, gr, tc, ts, tl, tm, a1, a2, a3, a4, a5, a6, a7, a8, a9, a10, a11, a12, a13, a14, a15, a16, a17, a18, a19, a20, a21, a22, a23, a24) :=
  sw_ending h ⟨1, br_t (by decide) hp⟩
/-- one source's part in the least time -/
def sw_own (g lt : Int) : Int := if g = -1000 then -1000 else g - lt
def sw_st (i : Int32) (g lt m : Int) : Int := if i = 0 ∧ sw_own g lt < m then sw_own g lt else m
theorem sw_look6 {post : Int32 → St2 → Prop} {fk fw fp fl fm fc fn fr gm gc gn gr tc ts tl tm : Int32} {a1 a2 a3 a4 a5 a6 a7 a8 a9 a10 a11 a12 a13 a14 a15 a16 a17 a18 a19 a20 a21 a22 a23 a24 : Nat → Int32} {n i lt : Nat} {m : Int} (G : Nat → Int) (hi : i < 3) (hlt : lt ≤ 20) (hfl : fl = nI lt) (hG : -1000 ≤ G i ∧ G i ≤ 63) (hm : -1020 ≤ m ∧ m ≤ 1000) (h6 : a6 i = sw_i (G i))
    (hn : wX_lookAtMark_6 post fk fw fp fl fm fc fn fr gm gc gn gr tc ts tl tm a1 a2 a3 a4 a5 a6 a7 a8 a9 a10 a11 a12 a13 a14 a15 a16 a17 a18 a19 a20 a21 a22 a23 a24 n (sw_i (sw_st (a7 i) (G i) lt m)) (nI (i + 1))) : wX_lookAtMark_6 post fk fw fp fl fm fc fn fr gm gc gn gr tc ts tl tm a1 a2 a3 a4 a5 a6 a7 a8 a9 a10 a11 a12 a13 a14 a15 a16 a17 a18 a19 a20 a21 a22 a23 a24 (n + 1) (sw_i m) (nI i) := by
  have e : (nI i).toNatClampNeg = i := nI_clamp (by omega)
  have i3 : vp_in (nI i) 3 := pk_in i 3 hi
  have go : ∀ (o : Int), -1020 ≤ o → o ≤ 1000 → o = sw_own (G i) lt → ∀ z, z = sw_i o → wX_lookAtMark_40 post (wX_lookAtMark_6 post fk fw fp fl fm fc fn fr gm gc gn gr tc ts tl tm a1 a2 a3 a4 a5 a6 a7 a8 a9 a10 a11 a12 a13 a14 a15 a16 a17 a18 a19 a20 a21 a22 a23 a24 n) (sw_i m) (nI i) z fk fw fp fl fm fc fn fr gm gc gn gr tc ts tl tm a1 a2 a3 a4 a5 a6 a7 a8 a9 a10 a11 a12 a13 a14 a15 a16 a17 a18 a19 a20 a21 a22 a23 a24 := by
    intro o o1 o2 ho z hz
    unfold sw_st at hn
    rw [← ho] at hn
    unfold wX_lookAtMark_40
    rw [e]
    refine ⟨i3, ?_⟩
    by_cases g : a7 i = 0
    · refine br_t g ?_
      refine sw_le m o rfl hz (fun h => nm_r (nI_1 i) ?_) (fun h => nm_r (nI_1 i) ?_)
      · rw [if_neg (fun q => by omega)] at hn
        exact hn
      · rw [if_pos ⟨g, h⟩] at hn
        rw [hz]
        exact hn
    · refine br_f g (nm_r (nI_1 i) ?_)
      rw [if_neg (fun q => g q.1)] at hn
      exact hn
  refine pk_le 3 i (fun z => absurd z (by omega)) (fun _ => ⟨i3, ?_⟩)
  rw [e]
  refine sw_eq (G i) (-1000) h6 rfl (fun h => ?_) (fun h => ⟨i3, ?_⟩)
  · exact go (-1000) (by omega) (by omega) (if_pos h).symm _ rfl
  · exact go (G i - lt) (by omega) (by omega) (if_neg h).symm _ (by rw [h6, hfl, sw_in, sw_is])
/-- the least time of all sources that aren't idle, 1000 if there is none -/
def sw_m3 (id : Nat → Int32) (G : Nat → Int) (lt : Int) : Int := sw_st (id 2) (G 2) lt (sw_st (id 1) (G 1) lt (sw_st (id 0) (G 0) lt 1000))
theorem sw_st_rng {i : Int32} {g lt m : Int} (hg : -1000 ≤ g ∧ g ≤ 63) (hlt : 0 ≤ lt ∧ lt ≤ 20) (hm : -1020 ≤ m ∧ m ≤ 1000) : -1020 ≤ sw_st i g lt m ∧ sw_st i g lt m ≤ 1000 := by
  have ho : -1020 ≤ sw_own g lt ∧ sw_own g lt ≤ 1000 := by
    unfold sw_own
    split <;> omega
  unfold sw_st
  split
  · exact ho
  · exact hm
/-- lookAtMark up to what is closed: the mark moves to mk' -/
theorem sw_look {post : Int32 → St2 → Prop} {fk fw fp fl fm fc fn fr gm gc gn gr tc ts tl tm : Int32} {a1 a2 a3 a4 a5 a6 a7 a8 a9 a10 a11 a12 a13 a14 a15 a16 a17 a18 a19 a20 a21 a22 a23 a24 : Nat → Int32} {lt : Nat} {mk mk' : Int} (G : Nat → Int) (hlt : lt ≤ 20) (hfl : fl = nI lt) (hG : ∀ i, i < 3 → -1000 ≤ G i ∧ G i ≤ 63) (h6 : ∀ i, i < 3 → a6 i = sw_i (G i)) (hmk : -1000 ≤ mk ∧ mk ≤ 63) (hfm : fm = sw_i mk)
    (hm : (1000 ≤ sw_m3 a7 G lt ∧ mk' = mk) ∨ (sw_m3 a7 G lt < 1000 ∧ sw_m3 a7 G lt ≤ mk ∧ mk' = mk) ∨ (sw_m3 a7 G lt < 1000 ∧ mk < sw_m3 a7 G lt ∧ mk' = sw_m3 a7 G lt))
    (hn : wX_lookAtMark_91 post (sw_i mk') fk fw fp fl fm fc fn fr gm gc gn gr tc ts tl tm a1 a2 a3 a4 a5 a6 a7 a8 a9 a10 a11 a12 a13 a14 a15 a16 a17 a18 a19 a20 a21 a22 a23 a24) : wpX_lookAtMark post (fk, fw, fp, fl, fm, fc, fn, fr, gm, gc, gn, gr, tc, ts, tl, tm, a1, a2, a3, a4, a5, a6, a7, a8, a9, a10, a11, a12, a13, a14, a15, a16, a17, a18, a19, a20, a21, a22, a23, a24) := by
  have r0 := sw_st_rng (i := a7 0) (hG 0 (by omega)) (lt := lt) (by omega) (m := 1000) (by omega)
  have r1 := sw_st_rng (i := a7 1) (hG 1 (by omega)) (lt := lt) (by omega) r0
  have r2 := sw_st_rng (i := a7 2) (hG 2 (by omega)) (lt := lt) (by omega) r1
  refine ⟨0 + 1 + 1 + 1 + 1, ?_⟩
  refine sw_look6 (m := 1000) (i := 0) G (by omega) hlt hfl (hG 0 (by omega)) (by omega) (h6 0 (by omega)) ?_
  refine sw_look6 (i := 1) G (by omega) hlt hfl (hG 1 (by omega)) r0 (h6 1 (by omega)) ?_
  refine sw_look6 (i := 2) G (by omega) hlt hfl (hG 2 (by omega)) r1 (h6 2 (by omega)) ?_
  have e3 : sw_st (a7 2) (G 2) lt (sw_st (a7 1) (G 1) lt (sw_st (a7 0) (G 0) lt 1000)) = sw_m3 a7 G lt := rfl
  rw [e3] at r2
  rw [e3]
  generalize sw_m3 a7 G lt = m at hm r2
  refine pk_le 3 3 (fun _ => ?_) (fun z => absurd z (by omega))
  refine sw_le 1000 m rfl rfl (fun g => ?_) (fun g => ?_)
  · unfold wX_lookAtMark_87
    rw [hfm] at hn ⊢
    have : mk' = mk := by omega
    rw [this] at hn
    exact hn
  · refine sw_le m mk rfl hfm (fun g2 => ?_) (fun g2 => ?_)
    · unfold wX_lookAtMark_87
      rw [hfm] at hn ⊢
      have : mk' = mk := by omega
      rw [this] at hn
      exact hn
    · have : mk' = m := by omega
      rw [this] at hn
      exact hn
end
section
def sw_q (kd wd t k b : Nat) : Nat := if b = 1 ∧ kd < 2 then 64 * k + t / wd else 256
theorem sw_q8 {kd wd t k b j : Nat} {x : Int32} (hj : j < 256) : (if b = 1 ∧ kd < 2 ∧ j = 64 * k + t / wd then x else 0) = (if j = sw_q kd wd t k b then x else 0) := by
  unfold sw_q
  by_cases g : b = 1 ∧ kd < 2
  · rw [if_pos g]
    by_cases g2 : j = 64 * k + t / wd
    · rw [if_pos g2, if_pos ⟨g.1, g.2, g2⟩]
    · rw [if_neg g2, if_neg (fun z => g2 z.2.2)]
  · rw [if_neg g, if_neg (fun z => g ⟨z.1, z.2.1⟩), if_neg (by omega)]
def sw_G (s t b j : Nat) : Int := if b = 1 ∧ j = s then (t : Int) else -1000
theorem sw_G_or (s t b j : Nat) : sw_G s t b j = -1000 ∨ 0 ≤ sw_G s t b j := by
  unfold sw_G
  split <;> omega
theorem sw_G_rng {t : Nat} (ht : t < 64) (s b j : Nat) : -1000 ≤ sw_G s t b j ∧ sw_G s t b j ≤ 63 := by
  unfold sw_G
  split <;> omega
theorem sw_G6 {s t b j : Nat} : (if b = 1 ∧ j = s then nI t else -1000) = sw_i (sw_G s t b j) := by
  unfold sw_G
  by_cases g : b = 1 ∧ j = s
  · rw [if_pos g, if_pos g, sw_in]
  · rw [if_neg g, if_neg g]
    rfl
theorem sw_m3_c {f g : Nat → Int32} {G : Nat → Int} {lt : Int} (h : ∀ j, j < 3 → f j = g j) : sw_m3 f G lt = sw_m3 g G lt := by
  unfold sw_m3
  rw [h 0 (by omega), h 1 (by omega), h 2 (by omega)]
theorem sw_own_e (lt : Int) : sw_own (-1000) lt = -1000 := if_pos rfl
theorem sw_own_ge {g lt : Int} (hg : g = -1000 ∨ 0 ≤ g) (hlt : 0 ≤ lt ∧ lt ≤ 20) : -1000 ≤ sw_own g lt := by
  unfold sw_own
  split <;> omega
theorem sw_st_early {lt m : Int} (hm : -1000 ≤ m) : sw_st 0 (-1000) lt m = -1000 := by
  unfold sw_st
  rw [sw_own_e]
  by_cases g : (-1000 : Int) < m
  · rw [if_pos ⟨rfl, g⟩]
  · rw [if_neg (fun z => g z.2)]
    omega
theorem sw_st_ge {i : Int32} {g lt m : Int} (hm : -1000 ≤ m) (hg : g = -1000 ∨ 0 ≤ g) (hlt : 0 ≤ lt ∧ lt ≤ 20) : -1000 ≤ sw_st i g lt m := by
  unfold sw_st
  split
  · exact sw_own_ge hg hlt
  · exact hm
theorem sw_st_fix {i : Int32} {g lt : Int} (hg : g = -1000 ∨ 0 ≤ g) (hlt : 0 ≤ lt ∧ lt ≤ 20) : sw_st i g lt (-1000) = -1000 := by
  have h := sw_own_ge hg hlt
  unfold sw_st
  rw [if_neg (fun z => by omega)]
theorem sw_st_idle {i : Int32} {g lt m : Int} (hi : ¬ i = 0) : sw_st i g lt m = m := by
  unfold sw_st
  rw [if_neg (fun z => hi z.1)]
theorem sw_st_own {t lt m : Int} (ht : 0 ≤ t) (h : t - lt < m) : sw_st 0 t lt m = t - lt := by
  unfold sw_st
  have e : sw_own t lt = t - lt := if_neg (by omega)
  rw [e, if_pos ⟨rfl, h⟩]
/-- a source that isn't idle and has read nothing holds the mark back -/
theorem sw_m3_early {id : Nat → Int32} {G : Nat → Int} {lt : Int} (hlt : 0 ≤ lt ∧ lt ≤ 20) (hG : ∀ j, G j = -1000 ∨ 0 ≤ G j) {j : Nat} (hj : j < 3) (hi : id j = 0) (hg : G j = -1000) : sw_m3 id G lt = -1000 := by
  unfold sw_m3
  have : j = 0 ∨ j = 1 ∨ j = 2 := by omega
  rcases this with e | e | e <;> subst e
  · rw [hi, hg, sw_st_early (by omega), sw_st_fix (hG 1) hlt, sw_st_fix (hG 2) hlt]
  · rw [hi, hg, sw_st_early (sw_st_ge (by omega) (hG 0) hlt), sw_st_fix (hG 2) hlt]
  · rw [hi, hg, sw_st_early (sw_st_ge (sw_st_ge (by omega) (hG 0) hlt) (hG 1) hlt)]
theorem sw_m3_idle {id : Nat → Int32} {G : Nat → Int} {lt : Int} (hi : ∀ j, j < 3 → ¬ id j = 0) : sw_m3 id G lt = 1000 := by
  unfold sw_m3
  rw [sw_st_idle (hi 0 (by omega)), sw_st_idle (hi 1 (by omega)), sw_st_idle (hi 2 (by omega))]
theorem sw_m3_own {id : Nat → Int32} {G : Nat → Int} {lt : Int} {s t : Nat} (hs : s < 3) (ht : t < 64) (hlt : 0 ≤ lt ∧ lt ≤ 20) (h0 : id s = 0) (hg : G s = t) (hi : ∀ j, j < 3 → j ≠ s → ¬ id j = 0) : sw_m3 id G lt = t - lt := by
  unfold sw_m3
  have : s = 0 ∨ s = 1 ∨ s = 2 := by omega
  rcases this with e | e | e <;> subst e
  · rw [h0, hg, sw_st_own (by omega) (by omega), sw_st_idle (hi 1 (by omega) (by omega)), sw_st_idle (hi 2 (by omega) (by omega))]
  · rw [h0, hg, sw_st_idle (hi 0 (by omega) (by omega)), sw_st_own (by omega) (by omega), sw_st_idle (hi 2 (by omega) (by omega))]
  · rw [h0, hg, sw_st_idle (hi 0 (by omega) (by omega)), sw_st_idle (hi 1 (by omega) (by omega)), sw_st_own (by omega) (by omega)]
/-- the next window after the mark stands at mk -/
def sw_nw (kd wd pn : Nat) (nw mk : Int) : Int := if kd < 2 then max nw (mk / wd - pn + 1) else nw
/-- how the mark moves -/
def sw_mv (m3 mk mk' : Int) : Prop := (1000 ≤ m3 ∧ mk' = mk) ∨ (m3 < 1000 ∧ m3 ≤ mk ∧ mk' = mk) ∨ (m3 < 1000 ∧ mk < m3 ∧ mk' = m3)
theorem sw_dmono {mk : Int} {t wd : Nat} (hw : 1 ≤ wd) (h : mk ≤ t) : mk / wd ≤ ((t / wd : Nat) : Int) := by
  have : mk / wd ≤ (t : Int) / wd := Int.ediv_le_ediv (by omega) h
  rw [Int.natCast_ediv]
  exact this
theorem sw_Rlook {post : Int32 → St2 → Prop} {fk fw fp fl fm fc fn fr gm gc gn gr tc ts tl tm : Int32} {a1 a2 a3 a4 a5 a6 a7 a8 a9 a10 a11 a12 a13 a14 a15 a16 a17 a18 a19 a20 a21 a22 a23 a24 : Nat → Int32} {kd wd pn lt s t k b c : Nat} {v : Int32} {mk nw mk' : Int} {id : Nat → Int32} (hC : sw_C kd wd pn lt s t k) (h : sw_R kd wd pn lt s t k v b c mk nw id (fk, fw, fp, fl, fm, fc, fn, fr, gm, gc, gn, gr, tc, ts, tl, tm, a1, a2, a3, a4, a5, a6, a7, a8, a9, a10, a11, a12, a13, a14, a15, a16, a17, a18, a19, a20, a21, a22, a23, a24))
    (hmk : -1000 ≤ mk ∧ mk ≤ 63) (hnw : -3 ≤ nw ∧ nw ≤ 63) (hmk' : -1000 ≤ mk' ∧ mk' ≤ 63) (hm : sw_mv (sw_m3 id (sw_G s t b) lt) mk mk') (hb : b = 1 → mk' ≤ t)
    (hp : ∀ (fk' fw' fp' fl' fm' fc' fn' fr' gm' gc' gn' gr' tc' ts' tl' tm' : Int32) (a1' a2' a3' a4' a5' a6' a7' a8' a9' a10' a11' a12' a13' a14' a15' a16' a17' a18' a19' a20' a21' a22' a23' a24' : Nat → Int32), sw_R kd wd pn lt s t k v b c mk' (sw_nw kd wd pn nw mk') id (fk', fw', fp', fl', fm', fc', fn', fr', gm', gc', gn', gr', tc', ts', tl', tm', a1', a2', a3', a4', a5', a6', a7', a8', a9', a10', a11', a12', a13', a14', a15', a16', a17', a18', a19', a20', a21', a22', a23', a24') → post 0 (fk', fw', fp', fl', fm', fc', fn', fr', gm', gc', gn', gr', tc', ts', tl', tm', a1', a2', a3', a4', a5', a6', a7', a8', a9', a10', a11', a12', a13', a14', a15', a16', a17', a18', a19', a20', a21', a22', a23', a24')) : wpX_lookAtMark post (fk, fw, fp, fl, fm, fc, fn, fr, gm, gc, gn, gr, tc, ts, tl, tm, a1, a2, a3, a4, a5, a6, a7, a8, a9, a10, a11, a12, a13, a14, a15, a16, a17, a18, a19, a20, a21, a22, a23, a24) := by
  obtain ⟨hkd, hw1, hw8, hp1, hp4, hlt, hs, ht, hk⟩ := hC
  obtain ⟨⟨hfk, hfw, hfp, hfl, hfm, hfc, hfn, hfr⟩, hK, h20, h23, h24, hS, hE, hP, hQ, hZ⟩ := h
  have ez : fr - fr = 0 := by rw [hfr]; rfl
  refine sw_look (mk' := mk') (sw_G s t b) hlt hfl (fun i _ => sw_G_rng ht s b i) (fun i hi => by rw [(hS i hi).2.2.1, sw_G6]) hmk hfm (by rw [sw_m3_c (fun j hj => (hS j hj).2.2.2)]; exact hm) ?_
  unfold wX_lookAtMark_91
  refine pk_le 2 kd (fun g => ?_) (fun g => ?_) rfl hfk
  · refine sw_cs (fun y hy => ?_) ?_
    · by_cases g2 : b = 1 ∧ kd = 2 ∧ y = k
      · refine Or.inr ⟨by rw [hQ y hy, if_pos g2]; decide, ?_⟩
        rw [g2.2.2, (hZ g2.1 g2.2.1).1, hfw, sw_in, sw_in, sw_ia]
        have := hb g2.1
        exact (sw_ltI (by omega) (by omega)).mpr (by omega)
      · exact Or.inl (by rw [hQ y hy, if_neg g2]; decide)
    · show post (fr - fr) (fk, fw, fp, fl, sw_i mk', fc, fn, fr, gm, gc, gn, gr, tc, ts, tl, tm, a1, a2, a3, a4, a5, a6, a7, a8, a9, a10, a11, a12, a13, a14, a15, a16, a17, a18, a19, a20, a21, a22, a23, a24)
      rw [ez]
      have e : sw_nw kd wd pn nw mk' = nw := if_neg (by omega)
      rw [e] at hp
      exact hp fk fw fp fl (sw_i mk') fc fn fr gm gc gn gr tc ts tl tm a1 a2 a3 a4 a5 a6 a7 a8 a9 a10 a11 a12 a13 a14 a15 a16 a17 a18 a19 a20 a21 a22 a23 a24 ⟨⟨hfk, hfw, hfp, hfl, rfl, hfc, hfn, hfr⟩, hK, h20, h23, h24, hS, hE, hP, hQ, hZ⟩
  · refine sw_cw (q := sw_q kd wd t k b) (v := v) (mk := mk') (nw := nw) ⟨hw1, hw8⟩ ⟨hp1, hp4⟩ hfw hfp rfl hfn hnw hmk' (fun j hj => by rw [(hP j hj).1, sw_q8 hj]) (fun j hj => by rw [(hP j hj).2, sw_q8 hj]) ?_ (fun c1 c2 c3 c4 => ?_)
    · unfold sw_q
      by_cases g2 : b = 1 ∧ kd < 2
      · rw [if_pos g2]
        exact Or.inr ⟨k, t / wd, Nat.lt_of_le_of_lt (Nat.div_le_self _ _) ht, rfl, sw_dmono hw1 (hb g2.1)⟩
      · rw [if_neg g2]
        exact Or.inl rfl
    · show post (fr - fr) (fk, fw, fp, fl, sw_i mk', fc, sw_i (max nw (mk' / wd - pn + 1)), fr, gm, gc, gn, gr, c1, c2, c3, c4, a1, a2, a3, a4, a5, a6, a7, a8, a9, a10, a11, a12, a13, a14, a15, a16, a17, a18, a19, a20, a21, a22, a23, a24)
      rw [ez]
      have e : sw_nw kd wd pn nw mk' = max nw (mk' / wd - pn + 1) := if_pos (by omega)
      rw [e] at hp
      exact hp fk fw fp fl (sw_i mk') fc (sw_i (max nw (mk' / wd - pn + 1))) fr gm gc gn gr c1 c2 c3 c4 a1 a2 a3 a4 a5 a6 a7 a8 a9 a10 a11 a12 a13 a14 a15 a16 a17 a18 a19 a20 a21 a22 a23 a24 ⟨⟨hfk, hfw, hfp, hfl, rfl, hfc, rfl, hfr⟩, hK, h20, h23, h24, hS, hE, hP, hQ, hZ⟩
theorem sw_src {post : Int32 → Prop} {y : Nat} (hy : y < 3) (hp : post 1) : wpX_isSource post () (nI y) :=
  br_f (nI_pos (by omega)) (pk_le 3 y (fun z => absurd z (by omega)) (fun _ => hp))
theorem sw_srcN {post : Int32 → Prop} {x : Int32} (hx : x < 0 ∨ 3 ≤ x) (hp : post 0) : wpX_isSource post () x := by
  rcases hx with g | g
  · exact br_t g hp
  · exact br_c (fun _ => hp) (fun _ => br_t g hp)
theorem sw_key {post : Int32 → Prop} {y : Nat} (hy : y < 4) (hp : post 1) : wpX_isKey post () (nI y) :=
  br_f (nI_pos (by omega)) (pk_le 4 y (fun z => absurd z (by omega)) (fun _ => hp))
theorem sw_keyN {post : Int32 → Prop} {x : Int32} (hx : x < 0 ∨ 4 ≤ x) (hp : post 0) : wpX_isKey post () x := by
  rcases hx with g | g
  · exact br_t g hp
  · exact br_c (fun _ => hp) (fun _ => br_t g hp)
theorem sw_one : ¬ (1 : Int32) = 0 := by decide
theorem sw_Ridle {post : Int32 → St2 → Prop} {fk fw fp fl fm fc fn fr gm gc gn gr tc ts tl tm : Int32} {a1 a2 a3 a4 a5 a6 a7 a8 a9 a10 a11 a12 a13 a14 a15 a16 a17 a18 a19 a20 a21 a22 a23 a24 : Nat → Int32} {kd wd pn lt s t k b c y : Nat} {v f g : Int32} {mk nw mk' : Int} {id : Nat → Int32} (hC : sw_C kd wd pn lt s t k) (h : sw_R kd wd pn lt s t k v b c mk nw id (fk, fw, fp, fl, fm, fc, fn, fr, gm, gc, gn, gr, tc, ts, tl, tm, a1, a2, a3, a4, a5, a6, a7, a8, a9, a10, a11, a12, a13, a14, a15, a16, a17, a18, a19, a20, a21, a22, a23, a24))
    (hy : y < 3) (hf : vp_nar .boolean f = g)
    (hmk : -1000 ≤ mk ∧ mk ≤ 63) (hnw : -3 ≤ nw ∧ nw ≤ 63) (hmk' : -1000 ≤ mk' ∧ mk' ≤ 63) (hm : sw_mv (sw_m3 (upd id y g) (sw_G s t b) lt) mk mk') (hb : b = 1 → mk' ≤ t)
    (hp : ∀ (fk' fw' fp' fl' fm' fc' fn' fr' gm' gc' gn' gr' tc' ts' tl' tm' : Int32) (a1' a2' a3' a4' a5' a6' a7' a8' a9' a10' a11' a12' a13' a14' a15' a16' a17' a18' a19' a20' a21' a22' a23' a24' : Nat → Int32), sw_R kd wd pn lt s t k v b c mk' (sw_nw kd wd pn nw mk') (upd id y g) (fk', fw', fp', fl', fm', fc', fn', fr', gm', gc', gn', gr', tc', ts', tl', tm', a1', a2', a3', a4', a5', a6', a7', a8', a9', a10', a11', a12', a13', a14', a15', a16', a17', a18', a19', a20', a21', a22', a23', a24') → post 0 (fk', fw', fp', fl', fm', fc', fn', fr', gm', gc', gn', gr', tc', ts', tl', tm', a1', a2', a3', a4', a5', a6', a7', a8', a9', a10', a11', a12', a13', a14', a15', a16', a17', a18', a19', a20', a21', a22', a23', a24')) : wpX_idle post (fk, fw, fp, fl, fm, fc, fn, fr, gm, gc, gn, gr, tc, ts, tl, tm, a1, a2, a3, a4, a5, a6, a7, a8, a9, a10, a11, a12, a13, a14, a15, a16, a17, a18, a19, a20, a21, a22, a23, a24) (nI y) f := by
  unfold wpX_idle
  refine sw_src hy (br_f sw_one ⟨pk_in y 3 hy, nm_r (e' := upd a7 y g) (by rw [nI_clamp (by omega), hf]) ?_⟩)
  obtain ⟨h1, h2, h3, h4, h5, hS, h7⟩ := h
  refine sw_Rlook (mk' := mk') hC (id := upd id y g) (s := s) (t := t) (k := k) (v := v) (b := b) (c := c) (mk := mk) (nw := nw) ⟨h1, h2, h3, h4, h5, fun j hj => ⟨(hS j hj).1, (hS j hj).2.1, (hS j hj).2.2.1, ?_⟩, h7⟩ hmk hnw hmk' hm hb hp
  rw [sw_up, sw_up, (hS j hj).2.2.2]
theorem sw_RidleN {post : Int32 → St2 → Prop} {fk fw fp fl fm fc fn fr gm gc gn gr tc ts tl tm : Int32} {a1 a2 a3 a4 a5 a6 a7 a8 a9 a10 a11 a12 a13 a14 a15 a16 a17 a18 a19 a20 a21 a22 a23 a24 : Nat → Int32} {x f : Int32} (hx : x < 0 ∨ 3 ≤ x) (hp : post (-2001) (fk, fw, fp, fl, fm, fc, fn, fr, gm, gc, gn, gr, tc, ts, tl, tm, a1, a2, a3, a4, a5, a6, a7, a8, a9, a10, a11, a12, a13, a14, a15, a16, a17, a18, a19, a20, a21, a22, a23, a24)) : wpX_idle post (fk, fw, fp, fl, fm, fc, fn, fr, gm, gc, gn, gr, tc, ts, tl, tm, a1, a2, a3, a4, a5, a6, a7, a8, a9, a10, a11, a12, a13, a14, a15, a16, a17, a18, a19, a20, a21, a22, a23, a24) x f := by
  unfold wpX_idle
  exact sw_srcN hx (br_t rfl hp)
theorem sw_Rid {fk fw fp fl fm fc fn fr gm gc gn gr tc ts tl tm : Int32} {a1 a2 a3 a4 a5 a6 a7 a8 a9 a10 a11 a12 a13 a14 a15 a16 a17 a18 a19 a20 a21 a22 a23 a24 : Nat → Int32} {kd wd pn lt s t k b c : Nat} {v : Int32} {mk nw : Int} {id id' : Nat → Int32} (h : sw_R kd wd pn lt s t k v b c mk nw id (fk, fw, fp, fl, fm, fc, fn, fr, gm, gc, gn, gr, tc, ts, tl, tm, a1, a2, a3, a4, a5, a6, a7, a8, a9, a10, a11, a12, a13, a14, a15, a16, a17, a18, a19, a20, a21, a22, a23, a24)) (e : ∀ j, j < 3 → id j = id' j) : sw_R kd wd pn lt s t k v b c mk nw id' (fk, fw, fp, fl, fm, fc, fn, fr, gm, gc, gn, gr, tc, ts, tl, tm, a1, a2, a3, a4, a5, a6, a7, a8, a9, a10, a11, a12, a13, a14, a15, a16, a17, a18, a19, a20, a21, a22, a23, a24) := by
  obtain ⟨h1, h2, h3, h4, h5, hS, h7⟩ := h
  exact ⟨h1, h2, h3, h4, h5, fun j hj => ⟨(hS j hj).1, (hS j hj).2.1, (hS j hj).2.2.1, by rw [(hS j hj).2.2.2, e j hj]⟩, h7⟩
end
section
theorem sw_Rkeep {post : Int32 → St2 → Prop} {fk fw fp fl fm fc fn fr gm gc gn gr tc ts tl tm : Int32} {a1 a2 a3 a4 a5 a6 a7 a8 a9 a10 a11 a12 a13 a14 a15 a16 a17 a18 a19 a20 a21 a22 a23 a24 : Nat → Int32} {kd wd pn lt s t k c : Nat} {v : Int32} (h : sw_R kd wd pn lt s t k v 0 c (-1000) (1 - (pn : Int)) (fun _ => 0) (fk, fw, fp, fl, fm, fc, fn, fr, gm, gc, gn, gr, tc, ts, tl, tm, a1, a2, a3, a4, a5, a6, a7, a8, a9, a10, a11, a12, a13, a14, a15, a16, a17, a18, a19, a20, a21, a22, a23, a24))
    (hp : ∀ (fk' fw' fp' fl' fm' fc' fn' fr' gm' gc' gn' gr' tc' ts' tl' tm' : Int32) (a1' a2' a3' a4' a5' a6' a7' a8' a9' a10' a11' a12' a13' a14' a15' a16' a17' a18' a19' a20' a21' a22' a23' a24' : Nat → Int32), sw_R kd wd pn lt s t k v 0 c (-1000) (1 - (pn : Int)) (fun _ => 0) (fk', fw', fp', fl', fm', fc', fn', fr', gm', gc', gn', gr', tc', ts', tl', tm', a1', a2', a3', a4', a5', a6', a7', a8', a9', a10', a11', a12', a13', a14', a15', a16', a17', a18', a19', a20', a21', a22', a23', a24') → post 0 (fk', fw', fp', fl', fm', fc', fn', fr', gm', gc', gn', gr', tc', ts', tl', tm', a1', a2', a3', a4', a5', a6', a7', a8', a9', a10', a11', a12', a13', a14', a15', a16', a17', a18', a19', a20', a21', a22', a23', a24')) : wpX_keep post (fk, fw, fp, fl, fm, fc, fn, fr, gm, gc, gn, gr, tc, ts, tl, tm, a1, a2, a3, a4, a5, a6, a7, a8, a9, a10, a11, a12, a13, a14, a15, a16, a17, a18, a19, a20, a21, a22, a23, a24) := by
  obtain ⟨⟨hfk, hfw, hfp, hfl, hfm, hfc, hfn, hfr⟩, hK, h20, h23, h24, hS, hE, hP, hQ, hZ⟩ := h
  refine sw_keep (fun j hj => ?_) (fun j hj => ?_) (fun j hj => (hS j hj).2.2.2) (fun j hj => ?_) (fun j hj => ?_) (fun j hj => ?_) (fun b20 b21 b22 b23 b24 g20 g21 g22 g23 g24 => ?_)
  · rw [(hS j hj).2.1, nI_0]
    exact ite_self _
  · rw [(hS j hj).2.2.1]
    exact if_neg (fun z => by omega)
  · rw [(hP j hj).1]
    exact if_neg (fun z => by omega)
  · rw [(hP j hj).2]
    exact if_neg (fun z => by omega)
  · rw [hQ j hj]
    exact if_neg (fun z => by omega)
  · have R := hp fk fw fp fl fm fc fn fr fm fc fn fr tc ts tl tm a1 a2 a3 a4 a5 a6 a7 a8 a9 a10 a11 a12 a13 a14 a15 a16 a17 a18 a19 b20 b21 b22 b23 b24 ⟨⟨hfk, hfw, hfp, hfl, hfm, hfc, hfn, hfr⟩, ⟨hfm, hfc, hfn, hfr⟩, fun j hj => ⟨g20 j hj, g21 j hj, g22 j hj⟩, g23, g24, hS, hE, hP, hQ, hZ⟩
    exact sw_at (P := fun z => post z (fk, fw, fp, fl, fm, fc, fn, fr, fm, fc, fn, fr, tc, ts, tl, tm, a1, a2, a3, a4, a5, a6, a7, a8, a9, a10, a11, a12, a13, a14, a15, a16, a17, a18, a19, b20, b21, b22, b23, b24)) hfr R
theorem sw_Rcrash {post : Int32 → St2 → Prop} {fk fw fp fl fm fc fn fr gm gc gn gr tc ts tl tm : Int32} {a1 a2 a3 a4 a5 a6 a7 a8 a9 a10 a11 a12 a13 a14 a15 a16 a17 a18 a19 a20 a21 a22 a23 a24 : Nat → Int32} {kd wd pn lt s t k b c : Nat} {v : Int32} {mk nw : Int} {id : Nat → Int32} (h : sw_R kd wd pn lt s t k v b c mk nw id (fk, fw, fp, fl, fm, fc, fn, fr, gm, gc, gn, gr, tc, ts, tl, tm, a1, a2, a3, a4, a5, a6, a7, a8, a9, a10, a11, a12, a13, a14, a15, a16, a17, a18, a19, a20, a21, a22, a23, a24))
    (hp : ∀ (fk' fw' fp' fl' fm' fc' fn' fr' gm' gc' gn' gr' tc' ts' tl' tm' : Int32) (a1' a2' a3' a4' a5' a6' a7' a8' a9' a10' a11' a12' a13' a14' a15' a16' a17' a18' a19' a20' a21' a22' a23' a24' : Nat → Int32), sw_R kd wd pn lt s t k v 0 c (-1000) (1 - (pn : Int)) (fun _ => 0) (fk', fw', fp', fl', fm', fc', fn', fr', gm', gc', gn', gr', tc', ts', tl', tm', a1', a2', a3', a4', a5', a6', a7', a8', a9', a10', a11', a12', a13', a14', a15', a16', a17', a18', a19', a20', a21', a22', a23', a24') → post 0 (fk', fw', fp', fl', fm', fc', fn', fr', gm', gc', gn', gr', tc', ts', tl', tm', a1', a2', a3', a4', a5', a6', a7', a8', a9', a10', a11', a12', a13', a14', a15', a16', a17', a18', a19', a20', a21', a22', a23', a24')) : wpX_crash post (fk, fw, fp, fl, fm, fc, fn, fr, gm, gc, gn, gr, tc, ts, tl, tm, a1, a2, a3, a4, a5, a6, a7, a8, a9, a10, a11, a12, a13, a14, a15, a16, a17, a18, a19, a20, a21, a22, a23, a24) := by
  obtain ⟨⟨hfk, hfw, hfp, hfl, hfm, hfc, hfn, hfr⟩, ⟨hgm, hgc, hgn, hgr⟩, h20, h23, h24, hS, hE, hP, hQ, hZ⟩ := h
  refine sw_crash h20 h23 h24 (fun b5 b6 b7 b8 b9 b10 b11 b12 b13 b14 b15 b16 b17 b18 g5 g6 g7 g8 g9 g12 => ?_)
  have R := hp fk fw fp fl gm gc gn gr gm gc gn gr tc ts tl tm a1 a2 a3 a4 b5 b6 b7 b8 b9 b10 b11 b12 b13 b14 b15 b16 b17 b18 a19 a20 a21 a22 a23 a24
    ⟨⟨hfk, hfw, hfp, hfl, hgm, hgc, hgn, hgr⟩, ⟨hgm, hgc, hgn, hgr⟩, h20, h23, h24,
      fun j hj => ⟨(hS j hj).1, by rw [g5 j hj, nI_0]; exact (ite_self _).symm, by rw [g6 j hj]; exact (if_neg (fun z => by omega)).symm, g7 j hj⟩, hE,
      fun j hj => ⟨by rw [g8 j hj]; exact (if_neg (fun z => by omega)).symm, by rw [g9 j hj]; exact (if_neg (fun z => by omega)).symm⟩,
      fun j hj => by rw [g12 j hj]; exact (if_neg (fun z => by omega)).symm, fun z => by omega⟩
  exact sw_at (P := fun z => post z (fk, fw, fp, fl, gm, gc, gn, gr, gm, gc, gn, gr, tc, ts, tl, tm, a1, a2, a3, a4, b5, b6, b7, b8, b9, b10, b11, b12, b13, b14, b15, b16, b17, b18, a19, a20, a21, a22, a23, a24)) hgr R
theorem sw_Ropen {post : Int32 → St2 → Prop} {fk fw fp fl fm fc fn fr gm gc gn gr tc ts tl tm : Int32} {a1 a2 a3 a4 a5 a6 a7 a8 a9 a10 a11 a12 a13 a14 a15 a16 a17 a18 a19 a20 a21 a22 a23 a24 : Nat → Int32} {kd wd pn lt s t k b c y : Nat} {v : Int32} {mk nw : Int} {id : Nat → Int32} (hC : sw_C kd wd pn lt s t k) (h : sw_R kd wd pn lt s t k v b c mk nw id (fk, fw, fp, fl, fm, fc, fn, fr, gm, gc, gn, gr, tc, ts, tl, tm, a1, a2, a3, a4, a5, a6, a7, a8, a9, a10, a11, a12, a13, a14, a15, a16, a17, a18, a19, a20, a21, a22, a23, a24))
    (hy : y < 4) (hnw : -3 ≤ nw ∧ nw ≤ 63) (hw : b = 1 → kd < 2 → nw ≤ ((t / wd : Nat) : Int) - pn + 1)
    (hp : ∀ (fk' fw' fp' fl' fm' fc' fn' fr' gm' gc' gn' gr' tc' ts' tl' tm' : Int32) (a1' a2' a3' a4' a5' a6' a7' a8' a9' a10' a11' a12' a13' a14' a15' a16' a17' a18' a19' a20' a21' a22' a23' a24' : Nat → Int32), sw_R kd wd pn lt s t k v b c mk nw id (fk', fw', fp', fl', fm', fc', fn', fr', gm', gc', gn', gr', tc', ts', tl', tm', a1', a2', a3', a4', a5', a6', a7', a8', a9', a10', a11', a12', a13', a14', a15', a16', a17', a18', a19', a20', a21', a22', a23', a24') → post (if b = 1 ∧ y = k then (if kd = 2 then 1 else nI pn) else 0) (fk', fw', fp', fl', fm', fc', fn', fr', gm', gc', gn', gr', tc', ts', tl', tm', a1', a2', a3', a4', a5', a6', a7', a8', a9', a10', a11', a12', a13', a14', a15', a16', a17', a18', a19', a20', a21', a22', a23', a24')) : wpX_open post (fk, fw, fp, fl, fm, fc, fn, fr, gm, gc, gn, gr, tc, ts, tl, tm, a1, a2, a3, a4, a5, a6, a7, a8, a9, a10, a11, a12, a13, a14, a15, a16, a17, a18, a19, a20, a21, a22, a23, a24) (nI y) := by
  obtain ⟨hkd, hw1, hw8, hp1, hp4, hlt, hs, ht, hk⟩ := hC
  have H := h
  obtain ⟨⟨hfk, hfw, hfp, hfl, hfm, hfc, hfn, hfr⟩, hK, h20, h23, h24, hS, hE, hP, hQ, hZ⟩ := h
  have ht' : t / wd < 64 := Nat.lt_of_le_of_lt (Nat.div_le_self _ _) ht
  unfold wpX_open
  refine sw_key hy (br_f sw_one (pk_eq kd 2 (fun g => ⟨pk_in y 4 hy, ?_⟩) (fun g => ?_) hfk rfl))
  · rw [nI_clamp (by omega)]
    have e : a12 y = (if b = 1 ∧ y = k then (if kd = 2 then 1 else nI pn) else 0) := by
      rw [hQ y hy, if_pos g]
      by_cases g2 : b = 1 ∧ y = k
      · rw [if_pos g2, if_pos ⟨g2.1, g, g2.2⟩]
      · rw [if_neg g2, if_neg (fun z => g2 ⟨z.1, z.2.2⟩)]
    rw [e]
    exact hp fk fw fp fl fm fc fn fr gm gc gn gr tc ts tl tm a1 a2 a3 a4 a5 a6 a7 a8 a9 a10 a11 a12 a13 a14 a15 a16 a17 a18 a19 a20 a21 a22 a23 a24 H
  · have h8 : ∀ j, j < 256 → a8 j = if j = sw_q kd wd t k b then 1 else 0 := fun j hj => by rw [(hP j hj).1, sw_q8 hj]
    have h9 : ∀ j, j < 256 → a9 j = if j = sw_q kd wd t k b then v else 0 := fun j hj => by rw [(hP j hj).2, sw_q8 hj]
    rw [if_neg g] at hp
    by_cases g2 : b = 1 ∧ y = k
    · have eq : sw_q kd wd t k b = 64 * k + t / wd := if_pos ⟨g2.1, by omega⟩
      have hw' := hw g2.1 (by omega)
      have g3 := g2.2
      rw [if_pos g2] at hp
      generalize t / wd = p at *
      refine sw_open33 (fun i => max 0 (min (pn : Int) (nw + i - (p - pn + 1)))) hp4 hfp hy hfn hnw h8 h9 (by omega) (fun i hi z => ?_) (fun i hi z => ?_) (fun c1 c2 c3 c4 => ?_)
      · rw [eq] at z
        unfold sw_hit at z
        show max 0 (min (pn : Int) (nw + (i + 1 : Nat) - (p - pn + 1))) = max 0 (min (pn : Int) (nw + i - (p - pn + 1))) + 1
        omega
      · rw [eq] at z
        unfold sw_hit at z
        show max 0 (min (pn : Int) (nw + (i + 1 : Nat) - (p - pn + 1))) = max 0 (min (pn : Int) (nw + i - (p - pn + 1)))
        omega
      · show post (sw_i (max 0 (min (pn : Int) (nw + ((64 - nw).toNat : Nat) - (p - pn + 1))))) (fk, fw, fp, fl, fm, fc, fn, fr, gm, gc, gn, gr, c1, c2, c3, c4, a1, a2, a3, a4, a5, a6, a7, a8, a9, a10, a11, a12, a13, a14, a15, a16, a17, a18, a19, a20, a21, a22, a23, a24)
        have e : max 0 (min (pn : Int) (nw + ((64 - nw).toNat : Nat) - (p - pn + 1))) = pn := by omega
        rw [e, ← sw_in]
        exact hp fk fw fp fl fm fc fn fr gm gc gn gr c1 c2 c3 c4 a1 a2 a3 a4 a5 a6 a7 a8 a9 a10 a11 a12 a13 a14 a15 a16 a17 a18 a19 a20 a21 a22 a23 a24 H
    · rw [if_neg g2] at hp
      refine sw_open33 (fun _ => 0) hp4 hfp hy hfn hnw h8 h9 rfl (fun i hi z => ?_) (fun i hi z => rfl) (fun c1 c2 c3 c4 => hp fk fw fp fl fm fc fn fr gm gc gn gr c1 c2 c3 c4 a1 a2 a3 a4 a5 a6 a7 a8 a9 a10 a11 a12 a13 a14 a15 a16 a17 a18 a19 a20 a21 a22 a23 a24 H)
      unfold sw_hit sw_q at z
      by_cases g4 : b = 1 ∧ kd < 2
      · rw [if_pos g4] at z
        have gk : ¬ y = k := fun z => g2 ⟨g4.1, z⟩
        generalize t / wd = p at z ht'
        clear h8 h9 hP hp
        have : y < k ∨ k < y := by omega
        omega
      · rw [if_neg g4] at z
        omega
theorem sw_RopenN {post : Int32 → St2 → Prop} {fk fw fp fl fm fc fn fr gm gc gn gr tc ts tl tm : Int32} {a1 a2 a3 a4 a5 a6 a7 a8 a9 a10 a11 a12 a13 a14 a15 a16 a17 a18 a19 a20 a21 a22 a23 a24 : Nat → Int32} {x : Int32} (hx : x < 0 ∨ 4 ≤ x) (hp : post (-2001) (fk, fw, fp, fl, fm, fc, fn, fr, gm, gc, gn, gr, tc, ts, tl, tm, a1, a2, a3, a4, a5, a6, a7, a8, a9, a10, a11, a12, a13, a14, a15, a16, a17, a18, a19, a20, a21, a22, a23, a24)) : wpX_open post (fk, fw, fp, fl, fm, fc, fn, fr, gm, gc, gn, gr, tc, ts, tl, tm, a1, a2, a3, a4, a5, a6, a7, a8, a9, a10, a11, a12, a13, a14, a15, a16, a17, a18, a19, a20, a21, a22, a23, a24) x := by
  unfold wpX_open
  exact sw_keyN hx (br_t rfl hp)
theorem sw_Rpend {post : Int32 → St2 → Prop} {fk fw fp fl fm fc fn fr gm gc gn gr tc ts tl tm : Int32} {a1 a2 a3 a4 a5 a6 a7 a8 a9 a10 a11 a12 a13 a14 a15 a16 a17 a18 a19 a20 a21 a22 a23 a24 : Nat → Int32} {kd wd pn lt s t k b c y : Nat} {v : Int32} {mk nw : Int} {id : Nat → Int32} (hC : sw_C kd wd pn lt s t k) (h : sw_R kd wd pn lt s t k v b c mk nw id (fk, fw, fp, fl, fm, fc, fn, fr, gm, gc, gn, gr, tc, ts, tl, tm, a1, a2, a3, a4, a5, a6, a7, a8, a9, a10, a11, a12, a13, a14, a15, a16, a17, a18, a19, a20, a21, a22, a23, a24))
    (hy : y < 4) (hnw : -3 ≤ nw ∧ nw ≤ 63) (hw : b = 1 → kd < 2 → nw ≤ ((t / wd : Nat) : Int) - pn + 1)
    (hp : ∀ (fk' fw' fp' fl' fm' fc' fn' fr' gm' gc' gn' gr' tc' ts' tl' tm' : Int32) (a1' a2' a3' a4' a5' a6' a7' a8' a9' a10' a11' a12' a13' a14' a15' a16' a17' a18' a19' a20' a21' a22' a23' a24' : Nat → Int32), sw_R kd wd pn lt s t k v b c mk nw id (fk', fw', fp', fl', fm', fc', fn', fr', gm', gc', gn', gr', tc', ts', tl', tm', a1', a2', a3', a4', a5', a6', a7', a8', a9', a10', a11', a12', a13', a14', a15', a16', a17', a18', a19', a20', a21', a22', a23', a24') → post (if b = 1 ∧ y = k then v else 0) (fk', fw', fp', fl', fm', fc', fn', fr', gm', gc', gn', gr', tc', ts', tl', tm', a1', a2', a3', a4', a5', a6', a7', a8', a9', a10', a11', a12', a13', a14', a15', a16', a17', a18', a19', a20', a21', a22', a23', a24')) : wpX_pending post (fk, fw, fp, fl, fm, fc, fn, fr, gm, gc, gn, gr, tc, ts, tl, tm, a1, a2, a3, a4, a5, a6, a7, a8, a9, a10, a11, a12, a13, a14, a15, a16, a17, a18, a19, a20, a21, a22, a23, a24) (nI y) := by
  obtain ⟨hkd, hw1, hw8, hp1, hp4, hlt, hs, ht, hk⟩ := hC
  have H := h
  obtain ⟨⟨hfk, hfw, hfp, hfl, hfm, hfc, hfn, hfr⟩, hK, h20, h23, h24, hS, hE, hP, hQ, hZ⟩ := h
  have ht' : t / wd < 64 := Nat.lt_of_le_of_lt (Nat.div_le_self _ _) ht
  unfold wpX_pending
  refine sw_key hy (br_f sw_one (pk_eq kd 2 (fun g => ⟨pk_in y 4 hy, ?_⟩) (fun g => ?_) hfk rfl))
  · have e2 : (32 * nI y).toNatClampNeg = 32 * y := pk_cl (32 * y) (pk_mul 32 y)
    rw [nI_clamp (by omega), e2]
    by_cases g2 : b = 1 ∧ y = k
    · rw [if_pos g2] at hp
      refine br_f (by rw [hQ y hy, if_pos ⟨g2.1, g, g2.2⟩]; decide) ⟨pk_in (32 * y) 128 (by omega) (pk_mul 32 y), ?_⟩
      rw [g2.2, (hZ g2.1 g).2]
      exact hp fk fw fp fl fm fc fn fr gm gc gn gr tc ts tl tm a1 a2 a3 a4 a5 a6 a7 a8 a9 a10 a11 a12 a13 a14 a15 a16 a17 a18 a19 a20 a21 a22 a23 a24 H
    · rw [if_neg g2] at hp
      refine br_t (by rw [hQ y hy, if_neg (fun z => g2 ⟨z.1, z.2.2⟩)]; decide) (hp fk fw fp fl fm fc fn fr gm gc gn gr tc ts tl tm a1 a2 a3 a4 a5 a6 a7 a8 a9 a10 a11 a12 a13 a14 a15 a16 a17 a18 a19 a20 a21 a22 a23 a24 H)
  · have h8 : ∀ j, j < 256 → a8 j = if j = sw_q kd wd t k b then 1 else 0 := fun j hj => by rw [(hP j hj).1, sw_q8 hj]
    have h9 : ∀ j, j < 256 → a9 j = if j = sw_q kd wd t k b then v else 0 := fun j hj => by rw [(hP j hj).2, sw_q8 hj]
    by_cases g2 : b = 1 ∧ y = k
    · have eq : sw_q kd wd t k b = 64 * k + t / wd := if_pos ⟨g2.1, by omega⟩
      have hw' := hw g2.1 (by omega)
      have g3 := g2.2
      rw [if_pos g2] at hp
      generalize t / wd = p at *
      refine sw_pend45 (e := ((p : Int) - pn + 1 - nw).toNat) hp4 hfp hy hfn hnw h8 h9 (fun i hi => ?_) (Or.inr ?_) (fun c1 c2 c3 c4 => hp fk fw fp fl fm fc fn fr gm gc gn gr c1 c2 c3 c4 a1 a2 a3 a4 a5 a6 a7 a8 a9 a10 a11 a12 a13 a14 a15 a16 a17 a18 a19 a20 a21 a22 a23 a24 H)
      · rw [eq]
        unfold sw_hit
        omega
      · rw [eq]
        unfold sw_hit
        exact ⟨by omega, by omega, rfl⟩
    · rw [if_neg g2] at hp
      refine sw_pend45 (e := (64 - nw).toNat) hp4 hfp hy hfn hnw h8 h9 (fun i hi => ⟨by omega, fun z => ?_⟩) (Or.inl ⟨by omega, rfl⟩) (fun c1 c2 c3 c4 => hp fk fw fp fl fm fc fn fr gm gc gn gr c1 c2 c3 c4 a1 a2 a3 a4 a5 a6 a7 a8 a9 a10 a11 a12 a13 a14 a15 a16 a17 a18 a19 a20 a21 a22 a23 a24 H)
      unfold sw_hit sw_q at z
      by_cases g4 : b = 1 ∧ kd < 2
      · rw [if_pos g4] at z
        have gk : ¬ y = k := fun z => g2 ⟨g4.1, z⟩
        generalize t / wd = p at z ht'
        clear h8 h9 hP hp
        have : y < k ∨ k < y := by omega
        omega
      · rw [if_neg g4] at z
        omega
theorem sw_RpendN {post : Int32 → St2 → Prop} {fk fw fp fl fm fc fn fr gm gc gn gr tc ts tl tm : Int32} {a1 a2 a3 a4 a5 a6 a7 a8 a9 a10 a11 a12 a13 a14 a15 a16 a17 a18 a19 a20 a21 a22 a23 a24 : Nat → Int32} {x : Int32} (hx : x < 0 ∨ 4 ≤ x) (hp : post 0 (fk, fw, fp, fl, fm, fc, fn, fr, gm, gc, gn, gr, tc, ts, tl, tm, a1, a2, a3, a4, a5, a6, a7, a8, a9, a10, a11, a12, a13, a14, a15, a16, a17, a18, a19, a20, a21, a22, a23, a24)) : wpX_pending post (fk, fw, fp, fl, fm, fc, fn, fr, gm, gc, gn, gr, tc, ts, tl, tm, a1, a2, a3, a4, a5, a6, a7, a8, a9, a10, a11, a12, a13, a14, a15, a16, a17, a18, a19, a20, a21, a22, a23, a24) x := by
  unfold wpX_pending
  exact sw_keyN hx (br_t rfl hp)
theorem sw_nw0 {kd wd pn : Nat} (hw : 1 ≤ wd ∧ wd ≤ 8) (hp : 1 ≤ pn) : sw_nw kd wd pn (1 - (pn : Int)) (-1000) = 1 - (pn : Int) := by
  unfold sw_nw
  split
  · have : wd = 1 ∨ wd = 2 ∨ wd = 3 ∨ wd = 4 ∨ wd = 5 ∨ wd = 6 ∨ wd = 7 ∨ wd = 8 := by omega
    rcases this with h | h | h | h | h | h | h | h <;> subst h <;> omega
  · rfl
end
section
theorem sw_Rread1 {post : Int32 → St2 → Prop} {fk fw fp fl fm fc fn fr gm gc gn gr tc ts tl tm : Int32} {a1 a2 a3 a4 a5 a6 a7 a8 a9 a10 a11 a12 a13 a14 a15 a16 a17 a18 a19 a20 a21 a22 a23 a24 : Nat → Int32} {kd wd pn lt s t k c : Nat} {v : Int32} (hC : sw_C kd wd pn lt s t k) (hc : 0 < c) (h : sw_R kd wd pn lt s t k v 0 c (-1000) (1 - (pn : Int)) (fun _ => 0) (fk, fw, fp, fl, fm, fc, fn, fr, gm, gc, gn, gr, tc, ts, tl, tm, a1, a2, a3, a4, a5, a6, a7, a8, a9, a10, a11, a12, a13, a14, a15, a16, a17, a18, a19, a20, a21, a22, a23, a24))
    (hp : ∀ (fk' fw' fp' fl' fm' fc' fn' fr' gm' gc' gn' gr' tc' ts' tl' tm' : Int32) (a1' a2' a3' a4' a5' a6' a7' a8' a9' a10' a11' a12' a13' a14' a15' a16' a17' a18' a19' a20' a21' a22' a23' a24' : Nat → Int32), sw_R kd wd pn lt s t k v 1 c (-1000) (1 - (pn : Int)) (fun _ => 0) (fk', fw', fp', fl', fm', fc', fn', fr', gm', gc', gn', gr', tc', ts', tl', tm', a1', a2', a3', a4', a5', a6', a7', a8', a9', a10', a11', a12', a13', a14', a15', a16', a17', a18', a19', a20', a21', a22', a23', a24') → post 0 (fk', fw', fp', fl', fm', fc', fn', fr', gm', gc', gn', gr', tc', ts', tl', tm', a1', a2', a3', a4', a5', a6', a7', a8', a9', a10', a11', a12', a13', a14', a15', a16', a17', a18', a19', a20', a21', a22', a23', a24')) : wpX_readOne post (fk, fw, fp, fl, fm, fc, fn, fr, gm, gc, gn, gr, tc, ts, tl, tm, a1, a2, a3, a4, a5, a6, a7, a8, a9, a10, a11, a12, a13, a14, a15, a16, a17, a18, a19, a20, a21, a22, a23, a24) (nI s) := by
  have HC := hC
  obtain ⟨hkd, hw1, hw8, hp1, hp4, hlt, hs, ht, hk⟩ := hC
  obtain ⟨⟨hfk, hfw, hfp, hfl, hfm, hfc, hfn, hfr⟩, hK, h20, h23, h24, hS, hE, hP, hQ, hZ⟩ := h
  obtain ⟨e2, e3, e4⟩ := hE hc
  have ec : (nI s).toNatClampNeg = s := nI_clamp (by omega)
  have ec2 : (nI (20 * s)).toNatClampNeg = 20 * s := nI_clamp (by omega)
  have i3 : vp_in (nI s) 3 := pk_in s 3 hs
  have i60 : vp_in (nI (20 * s)) 60 := pk_in (20 * s) 60 (by omega)
  have z5 : a5 s = 0 := by rw [(hS s hs).2.1, if_pos rfl, nI_0]
  have z6 : a6 s = -1000 := by rw [(hS s hs).2.2.1]; exact if_neg (fun z => by omega)
  have z8 : ∀ j, j < 256 → a8 j = 0 := fun j hj => by rw [(hP j hj).1]; exact if_neg (fun z => by omega)
  have z9 : ∀ j, j < 256 → a9 j = 0 := fun j hj => by rw [(hP j hj).2]; exact if_neg (fun z => by omega)
  have z12 : ∀ j, j < 4 → a12 j = 0 := fun j hj => by rw [hQ j hj]; exact if_neg (fun z => by omega)
  have ht' : t / wd < 64 := Nat.lt_of_le_of_lt (Nat.div_le_self _ _) ht
  have hq : 64 * k + t / wd < 256 := by omega
  have hS' : ∀ j, j < 3 → a1 j = (if j = s then nI c else 0) ∧ upd a5 s 1 j = (if j = s then nI 1 else 0) ∧ upd a6 s (nI t) j = (if 1 = 1 ∧ j = s then nI t else -1000) ∧ a7 j = (fun _ => 0) j := by
    intro j hj
    refine ⟨(hS j hj).1, ?_, ?_, (hS j hj).2.2.2⟩
    · rw [sw_up]
      by_cases g : j = s
      · rw [if_pos g, if_pos g]
        rfl
      · rw [if_neg g, if_neg g, (hS j hj).2.1, if_neg g]
    · rw [sw_up]
      by_cases g : j = s
      · rw [if_pos g, if_pos ⟨rfl, g⟩]
      · rw [if_neg g, if_neg (fun z => g z.2), (hS j hj).2.2.1]
        exact if_neg (fun z => g z.2)
  have hmv : sw_mv (sw_m3 (fun _ => 0) (sw_G s t 1) lt) (-1000) (-1000) := by
    have hj : ∃ j, j < 3 ∧ j ≠ s := by
      by_cases g : s = 0
      · exact ⟨1, by omega, by omega⟩
      · exact ⟨0, by omega, fun z => g z.symm⟩
    obtain ⟨j, j1, j2⟩ := hj
    rw [sw_m3_early (by omega) (sw_G_or s t 1) j1 rfl (if_neg (fun z => j2 z.2))]
    exact Or.inr (Or.inl ⟨by omega, by omega, rfl⟩)
  refine ⟨i3, nm_r (e' := nI (20 * s)) (by rw [ec, z5, Int32.add_zero]; exact pk_mul 20 s) ⟨i3, i3, nm_r (e' := upd a5 s 1) (by rw [ec, z5]; rfl) ⟨i60, nm_r (e' := nI t) (by rw [ec2, e2]) ⟨i3, ?_⟩⟩⟩⟩
  rw [ec]
  refine br_f (by rw [z6, sw_in]; exact fun z => absurd ((sw_leI (b := -1000) (by omega) (by omega)).mp z) (by omega)) ?_
  unfold wX_readOne_54
  refine ⟨i3, nm_r (e' := upd a6 s (nI t)) (by rw [ec]) ?_⟩
  rw [ec2, e3, e4]
  refine pk_le 2 kd (fun g => ⟨i60, i60, ?_⟩) (fun g => ⟨i60, i60, ?_⟩) rfl hfk
  · refine sw_takeS ⟨hw1, hw8⟩ ht hk hfw hfm (z12 k hk) (fun b13 b15 b17 b18 => ?_)
    unfold wX_readOne_100
    refine sw_Rlook (s := s) (t := t) (k := k) (v := v) (b := 1) (c := c) (mk := -1000) (nw := 1 - (pn : Int)) (mk' := -1000) (id := fun _ => 0) HC ⟨⟨hfk, hfw, hfp, hfl, hfm, hfc, hfn, hfr⟩, hK, h20, h23, h24, hS', hE, fun j hj => ⟨?_, ?_⟩, fun j hj => ?_, fun _ _ => ⟨pk_us, pk_us⟩⟩ (by omega) (by omega) (by omega) hmv (fun _ => by omega) ?_
    · rw [z8 j hj]
      exact (if_neg (fun z => by omega)).symm
    · rw [z9 j hj]
      exact (if_neg (fun z => by omega)).symm
    · rw [sw_up]
      by_cases g2 : j = k
      · rw [if_pos g2, if_pos ⟨rfl, by omega, g2⟩]
      · rw [if_neg g2, if_neg (fun z => g2 z.2.2), z12 j hj]
    · rw [sw_nw0 ⟨hw1, hw8⟩ hp1]
      exact hp
  · refine sw_takeP ⟨hw1, hw8⟩ ⟨hp1, hp4⟩ ht hk hfw hfp hfm (z8 _ hq) (fun b10 b11 => ?_)
    unfold wX_readOne_100
    refine sw_Rlook (s := s) (t := t) (k := k) (v := v) (b := 1) (c := c) (mk := -1000) (nw := 1 - (pn : Int)) (mk' := -1000) (id := fun _ => 0) HC ⟨⟨hfk, hfw, hfp, hfl, hfm, hfc, hfn, hfr⟩, hK, h20, h23, h24, hS', hE, fun j hj => ⟨?_, ?_⟩, fun j hj => ?_, fun _ z => absurd z (by omega)⟩ (by omega) (by omega) (by omega) hmv (fun _ => by omega) ?_
    · rw [sw_up]
      by_cases g2 : j = 64 * k + t / wd
      · rw [if_pos g2, if_pos ⟨rfl, by omega, g2⟩]
      · rw [if_neg g2, if_neg (fun z => g2 z.2.2), z8 j hj]
    · rw [sw_up]
      by_cases g2 : j = 64 * k + t / wd
      · rw [if_pos g2, if_pos ⟨rfl, by omega, g2⟩, z9 _ hq, Int32.zero_add]
      · rw [if_neg g2, if_neg (fun z => g2 z.2.2), z9 j hj]
    · rw [z12 j hj]
      exact (if_neg (fun z => by omega)).symm
    · rw [sw_nw0 ⟨hw1, hw8⟩ hp1]
      exact hp
theorem sw_unread {post : Int32 → Prop} {fk fw fp fl fm fc fn fr gm gc gn gr tc ts tl tm : Int32} {a1 a2 a3 a4 a5 a6 a7 a8 a9 a10 a11 a12 a13 a14 a15 a16 a17 a18 a19 a20 a21 a22 a23 a24 : Nat → Int32} {kd wd pn lt s t k b c y : Nat} {v : Int32} {mk nw : Int} {id : Nat → Int32} (h : sw_R kd wd pn lt s t k v b c mk nw id (fk, fw, fp, fl, fm, fc, fn, fr, gm, gc, gn, gr, tc, ts, tl, tm, a1, a2, a3, a4, a5, a6, a7, a8, a9, a10, a11, a12, a13, a14, a15, a16, a17, a18, a19, a20, a21, a22, a23, a24)) (hy : y < 3) (hb : b ≤ c)
    (hp : post (nI (if y = s then c - b else 0))) : wpX_unread post (fk, fw, fp, fl, fm, fc, fn, fr, gm, gc, gn, gr, tc, ts, tl, tm, a1, a2, a3, a4, a5, a6, a7, a8, a9, a10, a11, a12, a13, a14, a15, a16, a17, a18, a19, a20, a21, a22, a23, a24) (nI y) := by
  obtain ⟨h1, h2, h3, h4, h5, hS, h7⟩ := h
  refine ⟨pk_in y 3 hy, pk_in y 3 hy, ?_⟩
  rw [nI_clamp (by omega), (hS y hy).1, (hS y hy).2.1]
  by_cases g : y = s
  · rw [if_pos g] at hp
    rw [if_pos g, if_pos g, pk_sub hb]
    exact hp
  · rw [if_neg g] at hp
    rw [if_neg g, if_neg g]
    exact hp
theorem sw_lt3 {p : Prop} [Decidable p] : (if p then 0 else 1 : Nat) < 3 := by
  split <;> omega
theorem sw_full {post : Int32 → Prop} {fk fw fp fl fm fc fn fr gm gc gn gr tc ts tl tm : Int32} {a1 a2 a3 a4 a5 a6 a7 a8 a9 a10 a11 a12 a13 a14 a15 a16 a17 a18 a19 a20 a21 a22 a23 a24 : Nat → Int32} {kd wd pn lt s t k b c : Nat} {v : Int32} {mk nw : Int} {id : Nat → Int32} (h : sw_R kd wd pn lt s t k v b c mk nw id (fk, fw, fp, fl, fm, fc, fn, fr, gm, gc, gn, gr, tc, ts, tl, tm, a1, a2, a3, a4, a5, a6, a7, a8, a9, a10, a11, a12, a13, a14, a15, a16, a17, a18, a19, a20, a21, a22, a23, a24)) (hs : s < 3) (hb : b ≤ c) (hc : c ≤ 20)
    (hp : post (nI (if b < c then s else 0))) : wpX_fullest post (fk, fw, fp, fl, fm, fc, fn, fr, gm, gc, gn, gr, tc, ts, tl, tm, a1, a2, a3, a4, a5, a6, a7, a8, a9, a10, a11, a12, a13, a14, a15, a16, a17, a18, a19, a20, a21, a22, a23, a24) := by
  have step : ∀ n x y : Nat, x < 3 → y < 3 → wX_fullest_4 post fk fw fp fl fm fc fn fr gm gc gn gr tc ts tl tm a1 a2 a3 a4 a5 a6 a7 a8 a9 a10 a11 a12 a13 a14 a15 a16 a17 a18 a19 a20 a21 a22 a23 a24 n (nI (if (if y = s then c - b else 0) ≤ (if x = s then c - b else 0) then x else y)) (nI (y + 1)) → wX_fullest_4 post fk fw fp fl fm fc fn fr gm gc gn gr tc ts tl tm a1 a2 a3 a4 a5 a6 a7 a8 a9 a10 a11 a12 a13 a14 a15 a16 a17 a18 a19 a20 a21 a22 a23 a24 (n + 1) (nI x) (nI y) := by
    intro n x y hx hy hn
    refine pk_le 3 y (fun z => absurd z (by omega)) (fun _ => ?_)
    refine sw_unread h hy hb (sw_unread h hx hb ?_)
    refine pk_le (if y = s then c - b else 0) (if x = s then c - b else 0) (fun g => nm_r (nI_1 y) ?_) (fun g => nm_r (nI_1 y) ?_) rfl rfl (by split <;> omega) (by split <;> omega)
    · rw [if_pos g] at hn
      exact hn
    · rw [if_neg (by omega)] at hn
      exact hn
  refine ⟨0 + 1 + 1 + 1, step _ 0 1 (by omega) (by omega) (step _ _ 2 sw_lt3 (by omega) (pk_le 3 3 (fun _ => ?_) (fun z => absurd z (by omega))))⟩
  have e : (if (if 2 = s then c - b else 0) ≤ (if (if (if 1 = s then c - b else 0) ≤ (if 0 = s then c - b else 0) then 0 else 1) = s then c - b else 0) then (if (if 1 = s then c - b else 0) ≤ (if 0 = s then c - b else 0) then 0 else 1) else 2) = (if b < c then s else 0) := by
    have : s = 0 ∨ s = 1 ∨ s = 2 := by omega
    rcases this with e | e | e <;> subst e <;> by_cases g : b < c <;> simp [g] <;> omega
  rw [e]
  exact hp
theorem sw_Rread {post : Int32 → St2 → Prop} {fk fw fp fl fm fc fn fr gm gc gn gr tc ts tl tm : Int32} {a1 a2 a3 a4 a5 a6 a7 a8 a9 a10 a11 a12 a13 a14 a15 a16 a17 a18 a19 a20 a21 a22 a23 a24 : Nat → Int32} {kd wd pn lt s t k b c y : Nat} {v : Int32} {mk nw : Int} {id : Nat → Int32} (h : sw_R kd wd pn lt s t k v b c mk nw id (fk, fw, fp, fl, fm, fc, fn, fr, gm, gc, gn, gr, tc, ts, tl, tm, a1, a2, a3, a4, a5, a6, a7, a8, a9, a10, a11, a12, a13, a14, a15, a16, a17, a18, a19, a20, a21, a22, a23, a24)) (hy : y < 3) (hb : b ≤ c) (hn : y = s → c = b)
    (hp : post (-2002) (fk, fw, fp, fl, fm, fc, fn, fr, gm, gc, gn, gr, tc, ts, tl, tm, a1, a2, a3, a4, a5, a6, a7, a8, a9, a10, a11, a12, a13, a14, a15, a16, a17, a18, a19, a20, a21, a22, a23, a24)) : wpX_read post (fk, fw, fp, fl, fm, fc, fn, fr, gm, gc, gn, gr, tc, ts, tl, tm, a1, a2, a3, a4, a5, a6, a7, a8, a9, a10, a11, a12, a13, a14, a15, a16, a17, a18, a19, a20, a21, a22, a23, a24) (nI y) := by
  unfold wpX_read
  refine sw_src hy (br_f sw_one (sw_unread h hy hb (br_t ?_ hp)))
  by_cases g : y = s
  · rw [if_pos g, hn g, Nat.sub_self]
    rfl
  · rw [if_neg g]
    rfl
theorem sw_RreadN {post : Int32 → St2 → Prop} {fk fw fp fl fm fc fn fr gm gc gn gr tc ts tl tm : Int32} {a1 a2 a3 a4 a5 a6 a7 a8 a9 a10 a11 a12 a13 a14 a15 a16 a17 a18 a19 a20 a21 a22 a23 a24 : Nat → Int32} {x : Int32} (hx : x < 0 ∨ 3 ≤ x) (hp : post (-2001) (fk, fw, fp, fl, fm, fc, fn, fr, gm, gc, gn, gr, tc, ts, tl, tm, a1, a2, a3, a4, a5, a6, a7, a8, a9, a10, a11, a12, a13, a14, a15, a16, a17, a18, a19, a20, a21, a22, a23, a24)) : wpX_read post (fk, fw, fp, fl, fm, fc, fn, fr, gm, gc, gn, gr, tc, ts, tl, tm, a1, a2, a3, a4, a5, a6, a7, a8, a9, a10, a11, a12, a13, a14, a15, a16, a17, a18, a19, a20, a21, a22, a23, a24) x := by
  unfold wpX_read
  exact sw_srcN hx (br_t rfl hp)
theorem sw_RreadY {post : Int32 → St2 → Prop} {fk fw fp fl fm fc fn fr gm gc gn gr tc ts tl tm : Int32} {a1 a2 a3 a4 a5 a6 a7 a8 a9 a10 a11 a12 a13 a14 a15 a16 a17 a18 a19 a20 a21 a22 a23 a24 : Nat → Int32} {kd wd pn lt s t k c : Nat} {v : Int32} (hC : sw_C kd wd pn lt s t k) (hc : 0 < c) (hc2 : c ≤ 20) (h : sw_R kd wd pn lt s t k v 0 c (-1000) (1 - (pn : Int)) (fun _ => 0) (fk, fw, fp, fl, fm, fc, fn, fr, gm, gc, gn, gr, tc, ts, tl, tm, a1, a2, a3, a4, a5, a6, a7, a8, a9, a10, a11, a12, a13, a14, a15, a16, a17, a18, a19, a20, a21, a22, a23, a24))
    (hp : ∀ (fk' fw' fp' fl' fm' fc' fn' fr' gm' gc' gn' gr' tc' ts' tl' tm' : Int32) (a1' a2' a3' a4' a5' a6' a7' a8' a9' a10' a11' a12' a13' a14' a15' a16' a17' a18' a19' a20' a21' a22' a23' a24' : Nat → Int32), sw_R kd wd pn lt s t k v 1 c (-1000) (1 - (pn : Int)) (fun _ => 0) (fk', fw', fp', fl', fm', fc', fn', fr', gm', gc', gn', gr', tc', ts', tl', tm', a1', a2', a3', a4', a5', a6', a7', a8', a9', a10', a11', a12', a13', a14', a15', a16', a17', a18', a19', a20', a21', a22', a23', a24') → post 0 (fk', fw', fp', fl', fm', fc', fn', fr', gm', gc', gn', gr', tc', ts', tl', tm', a1', a2', a3', a4', a5', a6', a7', a8', a9', a10', a11', a12', a13', a14', a15', a16', a17', a18', a19', a20', a21', a22', a23', a24')) : wpX_read post (fk, fw, fp, fl, fm, fc, fn, fr, gm, gc, gn, gr, tc, ts, tl, tm, a1, a2, a3, a4, a5, a6, a7, a8, a9, a10, a11, a12, a13, a14, a15, a16, a17, a18, a19, a20, a21, a22, a23, a24) (nI s) := by
  have hs : s < 3 := hC.2.2.2.2.2.2.1
  unfold wpX_read
  refine sw_src hs (br_f sw_one (sw_unread h hs (by omega) (br_f ?_ (sw_Rread1 hC hc h hp))))
  rw [if_pos rfl]
  exact nI_ne0 (by omega) (by omega)
theorem sw_RreadAll0 {post : Int32 → St2 → Prop} {fk fw fp fl fm fc fn fr gm gc gn gr tc ts tl tm : Int32} {a1 a2 a3 a4 a5 a6 a7 a8 a9 a10 a11 a12 a13 a14 a15 a16 a17 a18 a19 a20 a21 a22 a23 a24 : Nat → Int32} {kd wd pn lt s t k c : Nat} {v : Int32} {mk nw : Int} {id : Nat → Int32} (h : sw_R kd wd pn lt s t k v c c mk nw id (fk, fw, fp, fl, fm, fc, fn, fr, gm, gc, gn, gr, tc, ts, tl, tm, a1, a2, a3, a4, a5, a6, a7, a8, a9, a10, a11, a12, a13, a14, a15, a16, a17, a18, a19, a20, a21, a22, a23, a24)) (hs : s < 3) (hc : c ≤ 20)
    (hp : post 0 (fk, fw, fp, fl, fm, fc, fn, fr, gm, gc, gn, gr, tc, ts, tl, tm, a1, a2, a3, a4, a5, a6, a7, a8, a9, a10, a11, a12, a13, a14, a15, a16, a17, a18, a19, a20, a21, a22, a23, a24)) : wpX_readAll post (fk, fw, fp, fl, fm, fc, fn, fr, gm, gc, gn, gr, tc, ts, tl, tm, a1, a2, a3, a4, a5, a6, a7, a8, a9, a10, a11, a12, a13, a14, a15, a16, a17, a18, a19, a20, a21, a22, a23, a24) := by
  unfold wpX_readAll
  refine sw_full h hs (by omega) hc ?_
  rw [if_neg (by omega)]
  refine ⟨1, br_f (by decide) (sw_unread h (y := 0) (by omega) (by omega) (br_t ?_ hp))⟩
  rw [Nat.sub_self, ite_self]
  decide
theorem sw_RreadAll1 {post : Int32 → St2 → Prop} {fk fw fp fl fm fc fn fr gm gc gn gr tc ts tl tm : Int32} {a1 a2 a3 a4 a5 a6 a7 a8 a9 a10 a11 a12 a13 a14 a15 a16 a17 a18 a19 a20 a21 a22 a23 a24 : Nat → Int32} {kd wd pn lt s t k : Nat} {v : Int32} (hC : sw_C kd wd pn lt s t k) (h : sw_R kd wd pn lt s t k v 0 1 (-1000) (1 - (pn : Int)) (fun _ => 0) (fk, fw, fp, fl, fm, fc, fn, fr, gm, gc, gn, gr, tc, ts, tl, tm, a1, a2, a3, a4, a5, a6, a7, a8, a9, a10, a11, a12, a13, a14, a15, a16, a17, a18, a19, a20, a21, a22, a23, a24))
    (hp : ∀ (fk' fw' fp' fl' fm' fc' fn' fr' gm' gc' gn' gr' tc' ts' tl' tm' : Int32) (a1' a2' a3' a4' a5' a6' a7' a8' a9' a10' a11' a12' a13' a14' a15' a16' a17' a18' a19' a20' a21' a22' a23' a24' : Nat → Int32), sw_R kd wd pn lt s t k v 1 1 (-1000) (1 - (pn : Int)) (fun _ => 0) (fk', fw', fp', fl', fm', fc', fn', fr', gm', gc', gn', gr', tc', ts', tl', tm', a1', a2', a3', a4', a5', a6', a7', a8', a9', a10', a11', a12', a13', a14', a15', a16', a17', a18', a19', a20', a21', a22', a23', a24') → post 1 (fk', fw', fp', fl', fm', fc', fn', fr', gm', gc', gn', gr', tc', ts', tl', tm', a1', a2', a3', a4', a5', a6', a7', a8', a9', a10', a11', a12', a13', a14', a15', a16', a17', a18', a19', a20', a21', a22', a23', a24')) : wpX_readAll post (fk, fw, fp, fl, fm, fc, fn, fr, gm, gc, gn, gr, tc, ts, tl, tm, a1, a2, a3, a4, a5, a6, a7, a8, a9, a10, a11, a12, a13, a14, a15, a16, a17, a18, a19, a20, a21, a22, a23, a24) := by
  have hs : s < 3 := hC.2.2.2.2.2.2.1
  unfold wpX_readAll
  refine sw_full h hs (by omega) (by omega) ?_
  rw [if_pos (by omega)]
  refine ⟨2, br_f (by decide) (sw_unread h hs (by omega) (br_f ?_ (sw_Rread1 hC (by omega) h (fun fk' fw' fp' fl' fm' fc' fn' fr' gm' gc' gn' gr' tc' ts' tl' tm' a1' a2' a3' a4' a5' a6' a7' a8' a9' a10' a11' a12' a13' a14' a15' a16' a17' a18' a19' a20' a21' a22' a23' a24' h' => nm_e ?_))))⟩
  · rw [if_pos rfl]
    decide
  · refine sw_full h' hs (by omega) (by omega) ?_
    rw [if_neg (by omega)]
    refine br_f (by decide) (sw_unread h' (y := 0) (by omega) (by omega) (br_t ?_ (hp fk' fw' fp' fl' fm' fc' fn' fr' gm' gc' gn' gr' tc' ts' tl' tm' a1' a2' a3' a4' a5' a6' a7' a8' a9' a10' a11' a12' a13' a14' a15' a16' a17' a18' a19' a20' a21' a22' a23' a24' h')))
    rw [Nat.sub_self, ite_self]
    decide
theorem sw_arr {post : Int32 → St2 → Prop} {fk fw fp fl fm fc fn fr gm gc gn gr tc ts tl tm : Int32} {a1 a2 a3 a4 a5 a6 a7 a8 a9 a10 a11 a12 a13 a14 a15 a16 a17 a18 a19 a20 a21 a22 a23 a24 : Nat → Int32} {d c : Nat} {v : Int32} (hd : d < 768) (hv : ¬ v < -50) (hv2 : v ≤ 50) (h1 : a1 (d / 256) = nI c) (hc : c < 20)
    (hp : post (nI (c + 1)) (fk, fw, fp, fl, fm, fc, fn, fr, gm, gc, gn, gr, tc, ts, tl, tm, upd a1 (d / 256) (nI (c + 1)), upd a2 (20 * (d / 256) + c) (nI (d % 64)), upd a3 (20 * (d / 256) + c) (nI (d / 64 % 4)), upd a4 (20 * (d / 256) + c) v, a5, a6, a7, a8, a9, a10, a11, a12, a13, a14, a15, a16, a17, a18, a19, a20, a21, a22, a23, a24)) :
    wpX_arrive post (fk, fw, fp, fl, fm, fc, fn, fr, gm, gc, gn, gr, tc, ts, tl, tm, a1, a2, a3, a4, a5, a6, a7, a8, a9, a10, a11, a12, a13, a14, a15, a16, a17, a18, a19, a20, a21, a22, a23, a24) (nI d) v := by
  have hs : d / 256 < 3 := by omega
  have e : (nI (d / 256)).toNatClampNeg = d / 256 := nI_clamp (by omega)
  have e2 : (nI (20 * (d / 256) + c)).toNatClampNeg = 20 * (d / 256) + c := nI_clamp (by omega)
  have i3 : vp_in (nI (d / 256)) 3 := pk_in _ 3 hs
  have i60 : vp_in (nI (20 * (d / 256) + c)) 60 := pk_in (20 * (d / 256) + c) 60 (by omega)
  have n64 : ¬ (64 : Int32) = 0 := by decide
  have d64 : nI d / 64 = nI (d / 64) := pk_div (d := 64) (by omega) (by omega) (by omega)
  refine br_f (nI_pos (by omega)) (pk_le 768 d (fun z => absurd z (by omega)) (fun _ => br_f hv (br_t hv2 ⟨by decide, nm_r (e' := nI (d / 256)) (pk_div (d := 256) (by omega) (by omega) (by omega)) ⟨i3, ?_⟩⟩)))
  rw [e]
  refine br_t (by rw [h1]; exact nI_lt (b := 20) hc (by omega)) ⟨i3, nm_r (e' := nI (20 * (d / 256) + c)) (by rw [h1]; exact sw_x 20 (d / 256) c) ?_⟩
  rw [e2]
  refine ⟨n64, i60, nm_r (e' := upd a2 (20 * (d / 256) + c) (nI (d % 64))) (congrArg _ (pk_rem (d := 64) (by omega) (by omega) (by omega))) ⟨n64, by decide, i60, nm_r (e' := upd a3 (20 * (d / 256) + c) (nI (d / 64 % 4))) (congrArg _ (by rw [d64]; exact pk_rem (d := 4) (by omega) (by omega) (by omega))) ⟨i60, nm_e ⟨i3, i3, nm_r (e' := upd a1 (d / 256) (nI (c + 1))) (by rw [h1, nI_1]) ⟨i3, ?_⟩⟩⟩⟩⟩
  rw [pk_us]
  exact hp
theorem sw_arrFull {post : Int32 → St2 → Prop} {fk fw fp fl fm fc fn fr gm gc gn gr tc ts tl tm : Int32} {a1 a2 a3 a4 a5 a6 a7 a8 a9 a10 a11 a12 a13 a14 a15 a16 a17 a18 a19 a20 a21 a22 a23 a24 : Nat → Int32} {d : Nat} {v : Int32} (hd : d < 768) (hv : ¬ v < -50) (hv2 : v ≤ 50) (h1 : a1 (d / 256) = nI 20)
    (hp : post (-2003) (fk, fw, fp, fl, fm, fc, fn, fr, gm, gc, gn, gr, tc, ts, tl, tm, a1, a2, a3, a4, a5, a6, a7, a8, a9, a10, a11, a12, a13, a14, a15, a16, a17, a18, a19, a20, a21, a22, a23, a24)) : wpX_arrive post (fk, fw, fp, fl, fm, fc, fn, fr, gm, gc, gn, gr, tc, ts, tl, tm, a1, a2, a3, a4, a5, a6, a7, a8, a9, a10, a11, a12, a13, a14, a15, a16, a17, a18, a19, a20, a21, a22, a23, a24) (nI d) v := by
  have hs : d / 256 < 3 := by omega
  have e : (nI (d / 256)).toNatClampNeg = d / 256 := nI_clamp (by omega)
  have i3 : vp_in (nI (d / 256)) 3 := pk_in _ 3 hs
  refine br_f (nI_pos (by omega)) (pk_le 768 d (fun z => absurd z (by omega)) (fun _ => br_f hv (br_t hv2 ⟨by decide, nm_r (e' := nI (d / 256)) (pk_div (d := 256) (by omega) (by omega) (by omega)) ⟨i3, ?_⟩⟩)))
  rw [e]
  exact br_f (by rw [h1]; decide) hp
theorem sw_arrBad {post : Int32 → St2 → Prop} {fk fw fp fl fm fc fn fr gm gc gn gr tc ts tl tm : Int32} {a1 a2 a3 a4 a5 a6 a7 a8 a9 a10 a11 a12 a13 a14 a15 a16 a17 a18 a19 a20 a21 a22 a23 a24 : Nat → Int32} {x v : Int32} (h : x < 0 ∨ 768 ≤ x ∨ v < -50 ∨ ¬ v ≤ 50) (hp : post (-2001) (fk, fw, fp, fl, fm, fc, fn, fr, gm, gc, gn, gr, tc, ts, tl, tm, a1, a2, a3, a4, a5, a6, a7, a8, a9, a10, a11, a12, a13, a14, a15, a16, a17, a18, a19, a20, a21, a22, a23, a24)) : wpX_arrive post (fk, fw, fp, fl, fm, fc, fn, fr, gm, gc, gn, gr, tc, ts, tl, tm, a1, a2, a3, a4, a5, a6, a7, a8, a9, a10, a11, a12, a13, a14, a15, a16, a17, a18, a19, a20, a21, a22, a23, a24) x v := by
  refine br_c (fun _ => hp) (fun g1 => br_c (fun _ => hp) (fun g2 => br_c (fun _ => hp) (fun g3 => br_f ?_ hp)))
  rcases h with g | g | g | g
  · exact absurd g g1
  · exact absurd g g2
  · exact absurd g g3
  · exact g
theorem sw_Rarr0 {post : Int32 → St2 → Prop} {fk fw fp fl fm fc fn fr gm gc gn gr tc ts tl tm : Int32} {a1 a2 a3 a4 a5 a6 a7 a8 a9 a10 a11 a12 a13 a14 a15 a16 a17 a18 a19 a20 a21 a22 a23 a24 : Nat → Int32} {kd wd pn lt s t k d : Nat} {v v' : Int32} {mk nw : Int} {id : Nat → Int32} (hd : d < 768) (hv : ¬ v < -50) (hv2 : v ≤ 50) (h : sw_R kd wd pn lt s t k v' 0 0 mk nw id (fk, fw, fp, fl, fm, fc, fn, fr, gm, gc, gn, gr, tc, ts, tl, tm, a1, a2, a3, a4, a5, a6, a7, a8, a9, a10, a11, a12, a13, a14, a15, a16, a17, a18, a19, a20, a21, a22, a23, a24))
    (hp : ∀ (fk' fw' fp' fl' fm' fc' fn' fr' gm' gc' gn' gr' tc' ts' tl' tm' : Int32) (a1' a2' a3' a4' a5' a6' a7' a8' a9' a10' a11' a12' a13' a14' a15' a16' a17' a18' a19' a20' a21' a22' a23' a24' : Nat → Int32), sw_R kd wd pn lt (d / 256) (d % 64) (d / 64 % 4) v 0 1 mk nw id (fk', fw', fp', fl', fm', fc', fn', fr', gm', gc', gn', gr', tc', ts', tl', tm', a1', a2', a3', a4', a5', a6', a7', a8', a9', a10', a11', a12', a13', a14', a15', a16', a17', a18', a19', a20', a21', a22', a23', a24') → post 1 (fk', fw', fp', fl', fm', fc', fn', fr', gm', gc', gn', gr', tc', ts', tl', tm', a1', a2', a3', a4', a5', a6', a7', a8', a9', a10', a11', a12', a13', a14', a15', a16', a17', a18', a19', a20', a21', a22', a23', a24')) : wpX_arrive post (fk, fw, fp, fl, fm, fc, fn, fr, gm, gc, gn, gr, tc, ts, tl, tm, a1, a2, a3, a4, a5, a6, a7, a8, a9, a10, a11, a12, a13, a14, a15, a16, a17, a18, a19, a20, a21, a22, a23, a24) (nI d) v := by
  obtain ⟨⟨hfk, hfw, hfp, hfl, hfm, hfc, hfn, hfr⟩, hK, h20, h23, h24, hS, hE, hP, hQ, hZ⟩ := h
  have hs : d / 256 < 3 := by omega
  have z1 : ∀ j, j < 3 → a1 j = 0 := fun j hj => by rw [(hS j hj).1, nI_0]; exact ite_self _
  refine sw_arr (c := 0) hd hv hv2 (z1 _ hs) (by omega) ?_
  refine hp fk fw fp fl fm fc fn fr gm gc gn gr tc ts tl tm (upd a1 (d / 256) (nI (0 + 1))) (upd a2 (20 * (d / 256) + 0) (nI (d % 64))) (upd a3 (20 * (d / 256) + 0) (nI (d / 64 % 4))) (upd a4 (20 * (d / 256) + 0) v) a5 a6 a7 a8 a9 a10 a11 a12 a13 a14 a15 a16 a17 a18 a19 a20 a21 a22 a23 a24 ⟨⟨hfk, hfw, hfp, hfl, hfm, hfc, hfn, hfr⟩, hK, h20, h23, h24, fun j hj => ⟨?_, ?_, ?_, (hS j hj).2.2.2⟩, fun _ => ⟨pk_us, pk_us, pk_us⟩, fun j hj => ⟨?_, ?_⟩, fun j hj => ?_, fun z => by omega⟩
  · rw [sw_up]
    by_cases g : j = d / 256
    · rw [if_pos g, if_pos g]
    · rw [if_neg g, if_neg g, z1 j hj]
  · rw [(hS j hj).2.1, nI_0, ite_self, ite_self]
  · rw [(hS j hj).2.2.1, if_neg (fun z => by omega), if_neg (fun z => by omega)]
  · rw [(hP j hj).1, if_neg (fun z => by omega), if_neg (fun z => by omega)]
  · rw [(hP j hj).2, if_neg (fun z => by omega), if_neg (fun z => by omega)]
  · rw [hQ j hj, if_neg (fun z => by omega), if_neg (fun z => by omega)]
theorem sw_RarrS {post : Int32 → St2 → Prop} {fk fw fp fl fm fc fn fr gm gc gn gr tc ts tl tm : Int32} {a1 a2 a3 a4 a5 a6 a7 a8 a9 a10 a11 a12 a13 a14 a15 a16 a17 a18 a19 a20 a21 a22 a23 a24 : Nat → Int32} {kd wd pn lt s t k b c d : Nat} {v x : Int32} {mk nw : Int} {id : Nat → Int32} (hd : d < 768) (hx : ¬ x < -50) (hx2 : x ≤ 50) (hs : d / 256 = s) (hc : 0 < c) (hc2 : c < 20) (h : sw_R kd wd pn lt s t k v b c mk nw id (fk, fw, fp, fl, fm, fc, fn, fr, gm, gc, gn, gr, tc, ts, tl, tm, a1, a2, a3, a4, a5, a6, a7, a8, a9, a10, a11, a12, a13, a14, a15, a16, a17, a18, a19, a20, a21, a22, a23, a24))
    (hp : ∀ (fk' fw' fp' fl' fm' fc' fn' fr' gm' gc' gn' gr' tc' ts' tl' tm' : Int32) (a1' a2' a3' a4' a5' a6' a7' a8' a9' a10' a11' a12' a13' a14' a15' a16' a17' a18' a19' a20' a21' a22' a23' a24' : Nat → Int32), sw_R kd wd pn lt s t k v b (c + 1) mk nw id (fk', fw', fp', fl', fm', fc', fn', fr', gm', gc', gn', gr', tc', ts', tl', tm', a1', a2', a3', a4', a5', a6', a7', a8', a9', a10', a11', a12', a13', a14', a15', a16', a17', a18', a19', a20', a21', a22', a23', a24') → post (nI (c + 1)) (fk', fw', fp', fl', fm', fc', fn', fr', gm', gc', gn', gr', tc', ts', tl', tm', a1', a2', a3', a4', a5', a6', a7', a8', a9', a10', a11', a12', a13', a14', a15', a16', a17', a18', a19', a20', a21', a22', a23', a24')) : wpX_arrive post (fk, fw, fp, fl, fm, fc, fn, fr, gm, gc, gn, gr, tc, ts, tl, tm, a1, a2, a3, a4, a5, a6, a7, a8, a9, a10, a11, a12, a13, a14, a15, a16, a17, a18, a19, a20, a21, a22, a23, a24) (nI d) x := by
  obtain ⟨⟨hfk, hfw, hfp, hfl, hfm, hfc, hfn, hfr⟩, hK, h20, h23, h24, hS, hE, hP, hQ, hZ⟩ := h
  have hs3 : d / 256 < 3 := by omega
  refine sw_arr (c := c) hd hx hx2 (by rw [(hS _ hs3).1, if_pos hs]) hc2 ?_
  refine hp fk fw fp fl fm fc fn fr gm gc gn gr tc ts tl tm (upd a1 (d / 256) (nI (c + 1))) (upd a2 (20 * (d / 256) + c) (nI (d % 64))) (upd a3 (20 * (d / 256) + c) (nI (d / 64 % 4))) (upd a4 (20 * (d / 256) + c) x) a5 a6 a7 a8 a9 a10 a11 a12 a13 a14 a15 a16 a17 a18 a19 a20 a21 a22 a23 a24 ⟨⟨hfk, hfw, hfp, hfl, hfm, hfc, hfn, hfr⟩, hK, h20, h23, h24, fun j hj => ⟨?_, (hS j hj).2.1, (hS j hj).2.2.1, (hS j hj).2.2.2⟩, fun _ => ?_, hP, hQ, hZ⟩
  · rw [sw_up, hs]
    by_cases g : j = s
    · rw [if_pos g, if_pos g]
    · rw [if_neg g, if_neg g, (hS j hj).1, if_neg g]
  · rw [pk_un (by omega), pk_un (by omega), pk_un (by omega)]
    exact hE hc
theorem sw_RarrF {post : Int32 → St2 → Prop} {fk fw fp fl fm fc fn fr gm gc gn gr tc ts tl tm : Int32} {a1 a2 a3 a4 a5 a6 a7 a8 a9 a10 a11 a12 a13 a14 a15 a16 a17 a18 a19 a20 a21 a22 a23 a24 : Nat → Int32} {kd wd pn lt s t k b d : Nat} {v x : Int32} {mk nw : Int} {id : Nat → Int32} (hd : d < 768) (hx : ¬ x < -50) (hx2 : x ≤ 50) (hs : d / 256 = s) (h : sw_R kd wd pn lt s t k v b 20 mk nw id (fk, fw, fp, fl, fm, fc, fn, fr, gm, gc, gn, gr, tc, ts, tl, tm, a1, a2, a3, a4, a5, a6, a7, a8, a9, a10, a11, a12, a13, a14, a15, a16, a17, a18, a19, a20, a21, a22, a23, a24))
    (hp : post (-2003) (fk, fw, fp, fl, fm, fc, fn, fr, gm, gc, gn, gr, tc, ts, tl, tm, a1, a2, a3, a4, a5, a6, a7, a8, a9, a10, a11, a12, a13, a14, a15, a16, a17, a18, a19, a20, a21, a22, a23, a24)) : wpX_arrive post (fk, fw, fp, fl, fm, fc, fn, fr, gm, gc, gn, gr, tc, ts, tl, tm, a1, a2, a3, a4, a5, a6, a7, a8, a9, a10, a11, a12, a13, a14, a15, a16, a17, a18, a19, a20, a21, a22, a23, a24) (nI d) x := by
  obtain ⟨h1, h2, h3, h4, h5, hS, h7⟩ := h
  exact sw_arrFull hd hx hx2 (by rw [(hS _ (by omega)).1, if_pos hs]) hp
theorem sw_Rpos {post : Int32 → Prop} {fk fw fp fl fm fc fn fr gm gc gn gr tc ts tl tm : Int32} {a1 a2 a3 a4 a5 a6 a7 a8 a9 a10 a11 a12 a13 a14 a15 a16 a17 a18 a19 a20 a21 a22 a23 a24 : Nat → Int32} {kd wd pn lt s t k b c y : Nat} {v : Int32} {mk nw : Int} {id : Nat → Int32} (h : sw_R kd wd pn lt s t k v b c mk nw id (fk, fw, fp, fl, fm, fc, fn, fr, gm, gc, gn, gr, tc, ts, tl, tm, a1, a2, a3, a4, a5, a6, a7, a8, a9, a10, a11, a12, a13, a14, a15, a16, a17, a18, a19, a20, a21, a22, a23, a24)) (hy : y < 3)
    (hp : post (if y = s then nI b else 0)) : wpX_position post (fk, fw, fp, fl, fm, fc, fn, fr, gm, gc, gn, gr, tc, ts, tl, tm, a1, a2, a3, a4, a5, a6, a7, a8, a9, a10, a11, a12, a13, a14, a15, a16, a17, a18, a19, a20, a21, a22, a23, a24) (nI y) := by
  obtain ⟨h1, h2, h3, h4, h5, hS, h7⟩ := h
  unfold wpX_position
  refine sw_src hy (br_f sw_one ⟨pk_in y 3 hy, ?_⟩)
  rw [nI_clamp (by omega), (hS y hy).2.1]
  exact hp
theorem sw_RposN {post : Int32 → Prop} {fk fw fp fl fm fc fn fr gm gc gn gr tc ts tl tm : Int32} {a1 a2 a3 a4 a5 a6 a7 a8 a9 a10 a11 a12 a13 a14 a15 a16 a17 a18 a19 a20 a21 a22 a23 a24 : Nat → Int32} {x : Int32} (hx : x < 0 ∨ 3 ≤ x) (hp : post (-2001)) : wpX_position post (fk, fw, fp, fl, fm, fc, fn, fr, gm, gc, gn, gr, tc, ts, tl, tm, a1, a2, a3, a4, a5, a6, a7, a8, a9, a10, a11, a12, a13, a14, a15, a16, a17, a18, a19, a20, a21, a22, a23, a24) x := by
  unfold wpX_position
  exact sw_srcN hx (br_t rfl hp)
theorem sw_Rmark {post : Int32 → Prop} {fk fw fp fl fm fc fn fr gm gc gn gr tc ts tl tm : Int32} {a1 a2 a3 a4 a5 a6 a7 a8 a9 a10 a11 a12 a13 a14 a15 a16 a17 a18 a19 a20 a21 a22 a23 a24 : Nat → Int32} {kd wd pn lt s t k b c : Nat} {v : Int32} {mk nw : Int} {id : Nat → Int32} (h : sw_R kd wd pn lt s t k v b c mk nw id (fk, fw, fp, fl, fm, fc, fn, fr, gm, gc, gn, gr, tc, ts, tl, tm, a1, a2, a3, a4, a5, a6, a7, a8, a9, a10, a11, a12, a13, a14, a15, a16, a17, a18, a19, a20, a21, a22, a23, a24)) (hp : post (sw_i mk)) : wpX_mark post (fk, fw, fp, fl, fm, fc, fn, fr, gm, gc, gn, gr, tc, ts, tl, tm, a1, a2, a3, a4, a5, a6, a7, a8, a9, a10, a11, a12, a13, a14, a15, a16, a17, a18, a19, a20, a21, a22, a23, a24) := by
  obtain ⟨⟨h1, h2, h3, h4, h5, h6, h7, h8⟩, hr⟩ := h
  show post fm
  rw [h5]
  exact hp
theorem sw_Rres {post : Int32 → Prop} {fk fw fp fl fm fc fn fr gm gc gn gr tc ts tl tm : Int32} {a1 a2 a3 a4 a5 a6 a7 a8 a9 a10 a11 a12 a13 a14 a15 a16 a17 a18 a19 a20 a21 a22 a23 a24 : Nat → Int32} {kd wd pn lt s t k b c : Nat} {v : Int32} {mk nw : Int} {id : Nat → Int32} (h : sw_R kd wd pn lt s t k v b c mk nw id (fk, fw, fp, fl, fm, fc, fn, fr, gm, gc, gn, gr, tc, ts, tl, tm, a1, a2, a3, a4, a5, a6, a7, a8, a9, a10, a11, a12, a13, a14, a15, a16, a17, a18, a19, a20, a21, a22, a23, a24)) (hp : post 0) : wpX_results post (fk, fw, fp, fl, fm, fc, fn, fr, gm, gc, gn, gr, tc, ts, tl, tm, a1, a2, a3, a4, a5, a6, a7, a8, a9, a10, a11, a12, a13, a14, a15, a16, a17, a18, a19, a20, a21, a22, a23, a24) := by
  obtain ⟨⟨h1, h2, h3, h4, h5, h6, h7, h8⟩, hr⟩ := h
  show post fr
  rw [h8]
  exact hp
theorem sw_Rlate {post : Int32 → Prop} {fk fw fp fl fm fc fn fr gm gc gn gr tc ts tl tm : Int32} {a1 a2 a3 a4 a5 a6 a7 a8 a9 a10 a11 a12 a13 a14 a15 a16 a17 a18 a19 a20 a21 a22 a23 a24 : Nat → Int32} {kd wd pn lt s t k b c : Nat} {v : Int32} {mk nw : Int} {id : Nat → Int32} (h : sw_R kd wd pn lt s t k v b c mk nw id (fk, fw, fp, fl, fm, fc, fn, fr, gm, gc, gn, gr, tc, ts, tl, tm, a1, a2, a3, a4, a5, a6, a7, a8, a9, a10, a11, a12, a13, a14, a15, a16, a17, a18, a19, a20, a21, a22, a23, a24)) (hp : post 0) : wpX_late post (fk, fw, fp, fl, fm, fc, fn, fr, gm, gc, gn, gr, tc, ts, tl, tm, a1, a2, a3, a4, a5, a6, a7, a8, a9, a10, a11, a12, a13, a14, a15, a16, a17, a18, a19, a20, a21, a22, a23, a24) := by
  obtain ⟨⟨h1, h2, h3, h4, h5, h6, h7, h8⟩, hr⟩ := h
  show post fc
  rw [h6]
  exact hp
theorem sw_Rkept {post : Int32 → Prop} {fk fw fp fl fm fc fn fr gm gc gn gr tc ts tl tm : Int32} {a1 a2 a3 a4 a5 a6 a7 a8 a9 a10 a11 a12 a13 a14 a15 a16 a17 a18 a19 a20 a21 a22 a23 a24 : Nat → Int32} {kd wd pn lt s t k b c : Nat} {v : Int32} {mk nw : Int} {id : Nat → Int32} (h : sw_R kd wd pn lt s t k v b c mk nw id (fk, fw, fp, fl, fm, fc, fn, fr, gm, gc, gn, gr, tc, ts, tl, tm, a1, a2, a3, a4, a5, a6, a7, a8, a9, a10, a11, a12, a13, a14, a15, a16, a17, a18, a19, a20, a21, a22, a23, a24)) (hp : post 0) : wpX_kept post (fk, fw, fp, fl, fm, fc, fn, fr, gm, gc, gn, gr, tc, ts, tl, tm, a1, a2, a3, a4, a5, a6, a7, a8, a9, a10, a11, a12, a13, a14, a15, a16, a17, a18, a19, a20, a21, a22, a23, a24) := by
  obtain ⟨h1, ⟨h2, h3, h4, h5⟩, hr⟩ := h
  show post gr
  rw [h5]
  exact hp
theorem sw_Rresult {post : Int32 → Prop} {fk fw fp fl fm fc fn fr gm gc gn gr tc ts tl tm : Int32} {a1 a2 a3 a4 a5 a6 a7 a8 a9 a10 a11 a12 a13 a14 a15 a16 a17 a18 a19 a20 a21 a22 a23 a24 : Nat → Int32} {kd wd pn lt s t k b c : Nat} {v x y : Int32} {mk nw : Int} {id : Nat → Int32} (h : sw_R kd wd pn lt s t k v b c mk nw id (fk, fw, fp, fl, fm, fc, fn, fr, gm, gc, gn, gr, tc, ts, tl, tm, a1, a2, a3, a4, a5, a6, a7, a8, a9, a10, a11, a12, a13, a14, a15, a16, a17, a18, a19, a20, a21, a22, a23, a24)) (hp : post (-2002)) : wpX_result post (fk, fw, fp, fl, fm, fc, fn, fr, gm, gc, gn, gr, tc, ts, tl, tm, a1, a2, a3, a4, a5, a6, a7, a8, a9, a10, a11, a12, a13, a14, a15, a16, a17, a18, a19, a20, a21, a22, a23, a24) x y := by
  obtain ⟨⟨h1, h2, h3, h4, h5, h6, h7, h8⟩, hr⟩ := h
  refine br_c (fun _ => hp) (fun g => br_t ?_ hp)
  rw [h8]
  exact Int32.not_lt.mp g
theorem sw_Rdig {post : Int32 → Prop} {fk fw fp fl fm fc fn fr gm gc gn gr tc ts tl tm : Int32} {a1 a2 a3 a4 a5 a6 a7 a8 a9 a10 a11 a12 a13 a14 a15 a16 a17 a18 a19 a20 a21 a22 a23 a24 : Nat → Int32} {kd wd pn lt s t k b c : Nat} {v : Int32} {mk nw : Int} {id : Nat → Int32} (h : sw_R kd wd pn lt s t k v b c mk nw id (fk, fw, fp, fl, fm, fc, fn, fr, gm, gc, gn, gr, tc, ts, tl, tm, a1, a2, a3, a4, a5, a6, a7, a8, a9, a10, a11, a12, a13, a14, a15, a16, a17, a18, a19, a20, a21, a22, a23, a24)) (hp : post 0) : wpX_digest post (fk, fw, fp, fl, fm, fc, fn, fr, gm, gc, gn, gr, tc, ts, tl, tm, a1, a2, a3, a4, a5, a6, a7, a8, a9, a10, a11, a12, a13, a14, a15, a16, a17, a18, a19, a20, a21, a22, a23, a24) := by
  obtain ⟨⟨h1, h2, h3, h4, h5, h6, h7, h8⟩, hr⟩ := h
  refine ⟨1, br_t ?_ hp⟩
  rw [h8]
  decide
end
section
def sw_cl (x lo hi : Int32) : Int32 := if lo ≤ x then (if x ≤ hi then x else hi) else lo
theorem sw_clB {P : Int32 → Prop} {x : Int32} (lo hi : Int32) (h : P (sw_cl x lo hi)) : (lo ≤ x → ((x ≤ hi → P x) ∧ (¬ x ≤ hi → P hi))) ∧ (¬ lo ≤ x → P lo) := by
  unfold sw_cl at h
  refine ⟨fun g => ⟨fun g2 => ?_, fun g2 => ?_⟩, fun g => ?_⟩
  · rw [if_pos g, if_pos g2] at h
    exact h
  · rw [if_pos g, if_neg g2] at h
    exact h
  · rw [if_neg g] at h
    exact h
theorem sw_clN (x : Int32) (a b : Nat) (hab : a ≤ b) (hb : b < 1000) : ∃ n : Nat, a ≤ n ∧ n ≤ b ∧ sw_cl x (nI a) (nI b) = nI n := by
  unfold sw_cl
  by_cases g : nI a ≤ x
  · by_cases g2 : x ≤ nI b
    · rw [if_pos g, if_pos g2]
      have h0 : ¬ x < 0 := by
        intro z
        have h1 : (0 : Int32) ≤ nI a := nI_pos' (by omega)
        exact Int32.not_lt.mpr (Int32.le_trans h1 g) z
      obtain ⟨j, hj, e⟩ := nI_of2 (M := nI b) (n := b) (nI_toInt (by omega)) h0 g2
      rw [e] at g
      exact ⟨j, (nI_leI (by omega) (by omega)).mp g, hj, e⟩
    · rw [if_pos g, if_neg g2]
      exact ⟨b, hab, by omega, rfl⟩
  · rw [if_neg g]
    exact ⟨a, by omega, hab, rfl⟩
theorem sw_clamp {post : Int32 → Prop} {x lo hi : Int32} (hp : post (sw_cl x lo hi)) : wpL_clamp post () x lo hi := sw_clB (P := post) lo hi hp
theorem sw_init334 {post : St2 → Prop} {mc ms kc ks kd wd pn lt : Nat} {fk fw fp fl fm fc fn fr gm gc gn gr tc ts tl tm : Int32} {a1 a2 a3 a4 a5 a6 a7 a8 a9 a10 a11 a12 a13 a14 a15 a16 a17 a18 a19 a20 a21 a22 a23 a24 : Nat → Int32} (hfk : fk = nI kd) (hfw : fw = nI wd) (hfp : fp = nI pn) (hfl : fl = nI lt) (hfm : fm = -1000) (hfc : fc = 0) (hfn : fn = sw_i (1 - (pn : Int))) (hfr : fr = 0)
    (h1 : ∀ j, j < 3 → a1 j = 0) (h5 : ∀ j, j < 3 → a5 j = 0) (h7 : ∀ j, j < 3 → a7 j = 0) (h8 : ∀ j, j < 256 → a8 j = 0) (h9 : ∀ j, j < 256 → a9 j = 0) (h12 : ∀ j, j < 4 → a12 j = 0)
    (hp : ∀ (fk' fw' fp' fl' fm' fc' fn' fr' gm' gc' gn' gr' tc' ts' tl' tm' : Int32) (a1' a2' a3' a4' a5' a6' a7' a8' a9' a10' a11' a12' a13' a14' a15' a16' a17' a18' a19' a20' a21' a22' a23' a24' : Nat → Int32), sw_R kd wd pn lt 0 0 0 0 0 0 (-1000) (1 - (pn : Int)) (fun _ => 0) (fk', fw', fp', fl', fm', fc', fn', fr', gm', gc', gn', gr', tc', ts', tl', tm', a1', a2', a3', a4', a5', a6', a7', a8', a9', a10', a11', a12', a13', a14', a15', a16', a17', a18', a19', a20', a21', a22', a23', a24') → post (fk', fw', fp', fl', fm', fc', fn', fr', gm', gc', gn', gr', tc', ts', tl', tm', a1', a2', a3', a4', a5', a6', a7', a8', a9', a10', a11', a12', a13', a14', a15', a16', a17', a18', a19', a20', a21', a22', a23', a24')) : ∃ n, wX_init_334 post mc ms kc ks fk fw fp fl fm fc fn fr gm gc gn gr tc ts tl tm n 0 a1 a2 a3 a4 a5 a6 a7 a8 a9 a10 a11 a12 a13 a14 a15 a16 a17 a18 a19 a20 a21 a22 a23 a24 :=
  pk_loop (fun n i s => wX_init_334 post mc ms kc ks fk fw fp fl fm fc fn fr gm gc gn gr tc ts tl tm n (nI i) a1 a2 a3 a4 a5 s a7 a8 a9 a10 a11 a12 a13 a14 a15 a16 a17 a18 a19 a20 a21 a22 a23 a24) (fun i s => ∀ j, j < i → s j = -1000) 3 0 a6 (by omega) (fun j hj => absurd hj (by omega))
    (fun n s hs => pk_le 3 3 (fun _ => sw_keep h5 hs h7 h8 h9 h12 (fun b20 b21 b22 b23 b24 g20 g21 g22 g23 g24 => hp fk fw fp fl fm fc fn fr fm fc fn fr tc ts tl tm a1 a2 a3 a4 a5 s a7 a8 a9 a10 a11 a12 a13 a14 a15 a16 a17 a18 a19 b20 b21 b22 b23 b24
      ⟨⟨hfk, hfw, hfp, hfl, hfm, hfc, hfn, hfr⟩, ⟨hfm, hfc, hfn, hfr⟩, fun j hj => ⟨g20 j hj, g21 j hj, g22 j hj⟩, g23, g24,
        fun j hj => ⟨by rw [h1 j hj, nI_0, ite_self], by rw [h5 j hj, nI_0, ite_self], by rw [hs j hj]; exact (if_neg (fun z => by omega)).symm, h7 j hj⟩, fun z => absurd z (by omega),
        fun j hj => ⟨by rw [h8 j hj, ]; exact (if_neg (fun z => by omega)).symm, by rw [h9 j hj]; exact (if_neg (fun z => by omega)).symm⟩,
        fun j hj => by rw [h12 j hj]; exact (if_neg (fun z => by omega)).symm, fun z => by omega⟩)) (fun z => absurd z (by omega)))
    (fun n i s hi hs hn => pk_le 3 i (fun z => absurd z (by omega)) (fun _ => ⟨pk_in i 3 hi, nm_e (nm_r (nI_1 i) (hn _ (by
      rw [nI_clamp (show i < 2 ^ 31 by omega)]
      exact sw_fill3 hs rfl)))⟩))
theorem sw_init {post : St2 → Prop} {mc ms : Nat} (hmc : 24 ≤ mc) (hms : 5893 ≤ ms) {x y z w : Int32} {kd wd pn lt : Nat} (hk : sw_cl x 0 2 = nI kd) (hkd : kd ≤ 2) (hw : sw_cl y 1 8 = nI wd)
    (hpn : (kd = 1 ∧ sw_cl z 1 4 = nI pn) ∨ (kd ≠ 1 ∧ pn = 1)) (hl : sw_cl w 0 20 = nI lt)
    (hp : ∀ (fk' fw' fp' fl' fm' fc' fn' fr' gm' gc' gn' gr' tc' ts' tl' tm' : Int32) (a1' a2' a3' a4' a5' a6' a7' a8' a9' a10' a11' a12' a13' a14' a15' a16' a17' a18' a19' a20' a21' a22' a23' a24' : Nat → Int32), sw_R kd wd pn lt 0 0 0 0 0 0 (-1000) (1 - (pn : Int)) (fun _ => 0) (fk', fw', fp', fl', fm', fc', fn', fr', gm', gc', gn', gr', tc', ts', tl', tm', a1', a2', a3', a4', a5', a6', a7', a8', a9', a10', a11', a12', a13', a14', a15', a16', a17', a18', a19', a20', a21', a22', a23', a24') → post (fk', fw', fp', fl', fm', fc', fn', fr', gm', gc', gn', gr', tc', ts', tl', tm', a1', a2', a3', a4', a5', a6', a7', a8', a9', a10', a11', a12', a13', a14', a15', a16', a17', a18', a19', a20', a21', a22', a23', a24')) : wpX_init post mc ms (0, 0, 0, 0, 0, 0, 0, 0, 0, 0, 0, 0, 0, 0, 0, 0) x y z w := by
  refine ⟨by omega, by omega, by omega, by omega, by omega, by omega, by omega, by omega, by omega, by omega, by omega, by omega, by omega, by omega, by omega, by omega, by omega, by omega, by omega, by omega, by omega, by omega, by omega, by omega, by omega, by omega, by omega, by omega, by omega, by omega, by omega, by omega, by omega, by omega, by omega, by omega, by omega, by omega, by omega, by omega, by omega, by omega, by omega, by omega, by omega, by omega, by omega, by omega,  ?_⟩
  refine sw_clB (P := fun q => wX_init_220 post mc ms y z w q 24 5893 0 0 0 0 0 0 0 0 0 0 0 0 0 0 0 0 (fun _ => 0) (fun _ => 0) (fun _ => 0) (fun _ => 0) (fun _ => 0) (fun _ => 0) (fun _ => 0) (fun _ => 0) (fun _ => 0) (fun _ => 0) (fun _ => 0) (fun _ => 0) (fun _ => 0) (fun _ => 0) (fun _ => 0) (fun _ => 0) (fun _ => 0) (fun _ => 0) (fun _ => 0) (fun _ => 0) (fun _ => 0) (fun _ => 0) (fun _ => 0) (fun _ => 0)) 0 2 ?_
  rw [hk]
  unfold wX_init_220
  refine sw_clB (P := fun q => wX_init_245 post mc ms z w q 24 5893 (nI kd) 0 0 0 0 0 0 0 0 0 0 0 0 0 0 0 (fun _ => 0) (fun _ => 0) (fun _ => 0) (fun _ => 0) (fun _ => 0) (fun _ => 0) (fun _ => 0) (fun _ => 0) (fun _ => 0) (fun _ => 0) (fun _ => 0) (fun _ => 0) (fun _ => 0) (fun _ => 0) (fun _ => 0) (fun _ => 0) (fun _ => 0) (fun _ => 0) (fun _ => 0) (fun _ => 0) (fun _ => 0) (fun _ => 0) (fun _ => 0) (fun _ => 0)) 1 8 ?_
  rw [hw]
  unfold wX_init_245
  refine sw_clB (P := fun q => wX_init_267 post mc ms w q 24 5893 (nI kd) (nI wd) 0 0 0 0 0 0 0 0 0 0 0 0 0 0 (fun _ => 0) (fun _ => 0) (fun _ => 0) (fun _ => 0) (fun _ => 0) (fun _ => 0) (fun _ => 0) (fun _ => 0) (fun _ => 0) (fun _ => 0) (fun _ => 0) (fun _ => 0) (fun _ => 0) (fun _ => 0) (fun _ => 0) (fun _ => 0) (fun _ => 0) (fun _ => 0) (fun _ => 0) (fun _ => 0) (fun _ => 0) (fun _ => 0) (fun _ => 0) (fun _ => 0)) 1 4 ?_
  have key : ∀ q, q = nI pn → wX_init_284 post mc ms w q 24 5893 (nI kd) (nI wd) 0 0 0 0 0 0 0 0 0 0 0 0 0 0 (fun _ => 0) (fun _ => 0) (fun _ => 0) (fun _ => 0) (fun _ => 0) (fun _ => 0) (fun _ => 0) (fun _ => 0) (fun _ => 0) (fun _ => 0) (fun _ => 0) (fun _ => 0) (fun _ => 0) (fun _ => 0) (fun _ => 0) (fun _ => 0) (fun _ => 0) (fun _ => 0) (fun _ => 0) (fun _ => 0) (fun _ => 0) (fun _ => 0) (fun _ => 0) (fun _ => 0) := by
    intro q hq
    subst hq
    unfold wX_init_284
    refine sw_clB (P := fun q => wX_init_311 post mc ms q 24 5893 (nI kd) (nI wd) (nI pn) 0 0 0 0 0 0 0 0 0 0 0 0 0 (fun _ => 0) (fun _ => 0) (fun _ => 0) (fun _ => 0) (fun _ => 0) (fun _ => 0) (fun _ => 0) (fun _ => 0) (fun _ => 0) (fun _ => 0) (fun _ => 0) (fun _ => 0) (fun _ => 0) (fun _ => 0) (fun _ => 0) (fun _ => 0) (fun _ => 0) (fun _ => 0) (fun _ => 0) (fun _ => 0) (fun _ => 0) (fun _ => 0) (fun _ => 0) (fun _ => 0)) 0 20 ?_
    rw [hl]
    unfold wX_init_311
    exact nm_r (e' := sw_i (1 - (pn : Int))) (by rw [sw_in]; exact sw_is 1 pn) (sw_init334 rfl rfl rfl rfl rfl rfl rfl rfl (fun _ _ => rfl) (fun _ _ => rfl) (fun _ _ => rfl) (fun _ _ => rfl) (fun _ _ => rfl) (fun _ _ => rfl) hp)
  unfold wX_init_267
  refine pk_eq kd 1 (fun g => key _ ?_) (fun g => key _ ?_)
  · rcases hpn with ⟨_, e⟩ | ⟨e, _⟩
    · exact e
    · exact absurd g e
  · rcases hpn with ⟨e, _⟩ | ⟨_, e⟩
    · exact absurd e g
    · rw [e]
      rfl
theorem sw_cell {post : Int32 → Prop} {L : Nat} {xs : Nat → Int32} (hL : L ≤ 5) (i : Nat) (hi : i < 1000) (hp : ∀ r, post r) : wpL_cellAt post L xs () (nI i) :=
  pk_le L i (fun _ => hp _) (fun z => ⟨pk_in i L z, hp _⟩)
end
section
theorem sw_n50 {i : Nat} (h : i ≤ 50) : ¬ nI i < -50 ∧ nI i ≤ 50 := by
  rw [sw_in]
  exact ⟨fun z => absurd ((sw_ltI (b := -50) (by omega) (by omega)).mp z) (by omega), (sw_leI (b := 50) (by omega) (by omega)).mpr (by omega)⟩
theorem sw_L873 {post : Int32 → St0 → Prop} {mc ms kc ks kd wd pn lt s t k : Nat} {v x18 : Int32} {mk nw : Int} {id : Nat → Int32} (hC : sw_C kd wd pn lt s t k) (hx : x18 = if kd = 2 then 1 else nI pn) (hpost : post 1 ()) :
    ∀ m i : Nat, i + m = 19 → ∀ (fk fw fp fl fm fc fn fr gm gc gn gr tc ts tl tm : Int32) (a1 a2 a3 a4 a5 a6 a7 a8 a9 a10 a11 a12 a13 a14 a15 a16 a17 a18 a19 a20 a21 a22 a23 a24 : Nat → Int32), sw_R kd wd pn lt s t k v 1 (i + 1) mk nw id (fk, fw, fp, fl, fm, fc, fn, fr, gm, gc, gn, gr, tc, ts, tl, tm, a1, a2, a3, a4, a5, a6, a7, a8, a9, a10, a11, a12, a13, a14, a15, a16, a17, a18, a19, a20, a21, a22, a23, a24) → wL_lawOf_873 post mc ms (nI s) (nI k) x18 kc ks (m + 1) (nI i) fk fw fp fl fm fc fn fr gm gc gn gr tc ts tl tm a1 a2 a3 a4 a5 a6 a7 a8 a9 a10 a11 a12 a13 a14 a15 a16 a17 a18 a19 a20 a21 a22 a23 a24 := by
  have hCC := hC
  obtain ⟨hkd, hw1, hw8, hp1, hp4, hlt, hs, ht, hk⟩ := hC
  have hd0 : (0 : Int) ≤ ((t / wd : Nat) : Int) := Int.natCast_nonneg _
  intro m
  induction m with
  | zero =>
    intro i hi fk fw fp fl fm fc fn fr gm gc gn gr tc ts tl tm a1 a2 a3 a4 a5 a6 a7 a8 a9 a10 a11 a12 a13 a14 a15 a16 a17 a18 a19 a20 a21 a22 a23 a24 h
    have ei : i = 19 := by omega
    subst ei
    refine pk_le 19 19 (fun _ => ?_) (fun z => absurd z (by omega))
    have e : 256 * nI s = nI (256 * s) := pk_mul 256 s
    rw [e]
    refine sw_RarrF (b := 1) (d := 256 * s) (by omega) (by decide) (by decide) (by omega) h (br_t rfl ?_)
    refine sw_Rcrash h (fun fk' fw' fp' fl' fm' fc' fn' fr' gm' gc' gn' gr' tc' ts' tl' tm' a1' a2' a3' a4' a5' a6' a7' a8' a9' a10' a11' a12' a13' a14' a15' a16' a17' a18' a19' a20' a21' a22' a23' a24' h => br_t rfl ?_)
    refine sw_Rmark h (br_t rfl ?_)
    refine sw_Rpos h hs (br_t (by rw [if_pos rfl]; rfl) ?_)
    refine sw_Ropen hCC h hk (by omega) (fun z => absurd z (by omega)) (fun fk'' fw'' fp'' fl'' fm'' fc'' fn'' fr'' gm'' gc'' gn'' gr'' tc'' ts'' tl'' tm'' a1'' a2'' a3'' a4'' a5'' a6'' a7'' a8'' a9'' a10'' a11'' a12'' a13'' a14'' a15'' a16'' a17'' a18'' a19'' a20'' a21'' a22'' a23'' a24'' h => br_t (if_neg (fun z => absurd z.1 (by omega))) ?_)
    refine sw_RreadY hCC (by omega) (by omega) h (fun fk''' fw''' fp''' fl''' fm''' fc''' fn''' fr''' gm''' gc''' gn''' gr''' tc''' ts''' tl''' tm''' a1''' a2''' a3''' a4''' a5''' a6''' a7''' a8''' a9''' a10''' a11''' a12''' a13''' a14''' a15''' a16''' a17''' a18''' a19''' a20''' a21''' a22''' a23''' a24''' h => br_t rfl ?_)
    refine sw_Ropen hCC h hk (by omega) (fun _ _ => by omega) (fun fk'''' fw'''' fp'''' fl'''' fm'''' fc'''' fn'''' fr'''' gm'''' gc'''' gn'''' gr'''' tc'''' ts'''' tl'''' tm'''' a1'''' a2'''' a3'''' a4'''' a5'''' a6'''' a7'''' a8'''' a9'''' a10'''' a11'''' a12'''' a13'''' a14'''' a15'''' a16'''' a17'''' a18'''' a19'''' a20'''' a21'''' a22'''' a23'''' a24'''' h => br_t ?_ hpost)
    rw [if_pos ⟨rfl, rfl⟩, hx]
  | succ m ih =>
    intro i hi fk fw fp fl fm fc fn fr gm gc gn gr tc ts tl tm a1 a2 a3 a4 a5 a6 a7 a8 a9 a10 a11 a12 a13 a14 a15 a16 a17 a18 a19 a20 a21 a22 a23 a24 h
    refine pk_le 19 i (fun z => absurd z (by omega)) (fun _ => ?_)
    have e : 256 * nI s + 63 = nI (256 * s + 63) := sw_x 256 s 63
    rw [e]
    have hn := sw_n50 (i := i) (by omega)
    refine sw_RarrS (d := 256 * s + 63) (by omega) hn.1 hn.2 (by omega) (by omega) (by omega) h (fun fk' fw' fp' fl' fm' fc' fn' fr' gm' gc' gn' gr' tc' ts' tl' tm' a1' a2' a3' a4' a5' a6' a7' a8' a9' a10' a11' a12' a13' a14' a15' a16' a17' a18' a19' a20' a21' a22' a23' a24' h => br_t ?_ (nm_r (nI_1 i) (ih (i + 1) (by omega) fk' fw' fp' fl' fm' fc' fn' fr' gm' gc' gn' gr' tc' ts' tl' tm' a1' a2' a3' a4' a5' a6' a7' a8' a9' a10' a11' a12' a13' a14' a15' a16' a17' a18' a19' a20' a21' a22' a23' a24' h)))
    exact (nI_add i 2).symm
def sw_id (s : Nat) (x y z : Int32) (j : Nat) : Int32 := if j = s then x else if j = (s + 1) % 3 then y else z
theorem sw_id0 {s : Nat} (hs : s < 3) (x y z g : Int32) : ∀ j, j < 3 → upd (sw_id s x y z) s g j = sw_id s g y z j := by
  intro j hj
  rw [sw_up]
  unfold sw_id
  by_cases h : j = s
  · rw [if_pos h, if_pos h]
  · rw [if_neg h, if_neg h, if_neg h]
theorem sw_id1 {s : Nat} (hs : s < 3) (x y z g : Int32) : ∀ j, j < 3 → upd (sw_id s x y z) ((s + 1) % 3) g j = sw_id s x g z j := by
  intro j hj
  rw [sw_up]
  unfold sw_id
  by_cases h : j = (s + 1) % 3
  · have h2 : ¬ j = s := by omega
    rw [if_pos h, if_neg h2, if_pos h]
  · rw [if_neg h, if_neg h, if_neg h]
theorem sw_id2 {s : Nat} (hs : s < 3) (x y z g : Int32) : ∀ j, j < 3 → upd (sw_id s x y z) ((s + 2) % 3) g j = sw_id s x y g j := by
  intro j hj
  rw [sw_up]
  unfold sw_id
  by_cases h : j = (s + 2) % 3
  · have h2 : ¬ j = s := by omega
    have h3 : ¬ j = (s + 1) % 3 := by omega
    rw [if_pos h, if_neg h2, if_neg h3]
  · by_cases h2 : j = s
    · rw [if_neg h, if_pos h2, if_pos h2]
    · have h3 : j = (s + 1) % 3 := by omega
      rw [if_neg h, if_neg h2, if_pos h3, if_neg h2, if_pos h3]
theorem sw_idz {s : Nat} (hs : s < 3) : ∀ j, j < 3 → upd (fun _ => 0) ((s + 1) % 3) 1 j = sw_id s 0 1 0 j := by
  intro j hj
  rw [sw_up]
  unfold sw_id
  by_cases g : j = (s + 1) % 3
  · rw [if_pos g, if_neg (by omega)]
  · rw [if_neg g, ite_self]
theorem sw_id_s {s : Nat} (x y z : Int32) : sw_id s x y z s = x := if_pos rfl
theorem sw_id_1 {s : Nat} (hs : s < 3) (x y z : Int32) : sw_id s x y z ((s + 1) % 3) = y := by
  unfold sw_id
  rw [if_neg (by omega), if_pos rfl]
theorem sw_id_2 {s : Nat} (hs : s < 3) (x y z : Int32) : sw_id s x y z ((s + 2) % 3) = z := by
  unfold sw_id
  rw [if_neg (by omega), if_neg (by omega)]
theorem sw_id_o {s : Nat} (x : Int32) {j : Nat} (h : j ≠ s) : sw_id s x 1 1 j = 1 := by
  unfold sw_id
  rw [if_neg h, ite_self]
theorem sw_G_s {s t : Nat} : sw_G s t 1 s = t := if_pos ⟨rfl, rfl⟩
theorem sw_G_o {s t j : Nat} (h : j ≠ s) : sw_G s t 1 j = -1000 := if_neg (fun z => h z.2)
/-- the next window when the mark stands at the event's time less the lateness -/
def sw_NW (kd wd pn lt t : Nat) : Int := sw_nw kd wd pn (1 - (pn : Int)) ((t : Int) - lt)
theorem sw_NW_id {kd wd pn lt t : Nat} : sw_nw kd wd pn (sw_NW kd wd pn lt t) ((t : Int) - lt) = sw_NW kd wd pn lt t := by
  unfold sw_NW sw_nw
  split
  · omega
  · rfl
theorem sw_NW_le {kd wd pn lt s t k : Nat} (hC : sw_C kd wd pn lt s t k) : -3 ≤ sw_NW kd wd pn lt t ∧ sw_NW kd wd pn lt t ≤ ((t / wd : Nat) : Int) - pn + 1 ∧ sw_NW kd wd pn lt t ≤ 63 := by
  obtain ⟨hkd, hw1, hw8, hp1, hp4, hlt, hs, ht, hk⟩ := hC
  have hd0 : (0 : Int) ≤ ((t / wd : Nat) : Int) := Int.natCast_nonneg _
  have h1 : ((t : Int) - lt) / wd ≤ ((t / wd : Nat) : Int) := sw_dmono hw1 (by omega)
  have ht' : t / wd < 64 := Nat.lt_of_le_of_lt (Nat.div_le_self _ _) ht
  unfold sw_NW sw_nw
  split <;> omega
theorem sw_RidleQ {post : Int32 → St2 → Prop} {fk fw fp fl fm fc fn fr gm gc gn gr tc ts tl tm : Int32} {a1 a2 a3 a4 a5 a6 a7 a8 a9 a10 a11 a12 a13 a14 a15 a16 a17 a18 a19 a20 a21 a22 a23 a24 : Nat → Int32} {kd wd pn lt s t k c y : Nat} {v f g : Int32} {id : Nat → Int32} (id' : Nat → Int32) (hC : sw_C kd wd pn lt s t k) (h : sw_R kd wd pn lt s t k v 1 c ((t : Int) - lt) (sw_NW kd wd pn lt t) id (fk, fw, fp, fl, fm, fc, fn, fr, gm, gc, gn, gr, tc, ts, tl, tm, a1, a2, a3, a4, a5, a6, a7, a8, a9, a10, a11, a12, a13, a14, a15, a16, a17, a18, a19, a20, a21, a22, a23, a24))
    (hy : y < 3) (hf : vp_nar .boolean f = g) (he : ∀ j, j < 3 → upd id y g j = id' j)
    (hm : 1000 ≤ sw_m3 id' (sw_G s t 1) lt ∨ sw_m3 id' (sw_G s t 1) lt ≤ (t : Int) - lt)
    (hp : ∀ (fk' fw' fp' fl' fm' fc' fn' fr' gm' gc' gn' gr' tc' ts' tl' tm' : Int32) (a1' a2' a3' a4' a5' a6' a7' a8' a9' a10' a11' a12' a13' a14' a15' a16' a17' a18' a19' a20' a21' a22' a23' a24' : Nat → Int32), sw_R kd wd pn lt s t k v 1 c ((t : Int) - lt) (sw_NW kd wd pn lt t) id' (fk', fw', fp', fl', fm', fc', fn', fr', gm', gc', gn', gr', tc', ts', tl', tm', a1', a2', a3', a4', a5', a6', a7', a8', a9', a10', a11', a12', a13', a14', a15', a16', a17', a18', a19', a20', a21', a22', a23', a24') → post 0 (fk', fw', fp', fl', fm', fc', fn', fr', gm', gc', gn', gr', tc', ts', tl', tm', a1', a2', a3', a4', a5', a6', a7', a8', a9', a10', a11', a12', a13', a14', a15', a16', a17', a18', a19', a20', a21', a22', a23', a24')) : wpX_idle post (fk, fw, fp, fl, fm, fc, fn, fr, gm, gc, gn, gr, tc, ts, tl, tm, a1, a2, a3, a4, a5, a6, a7, a8, a9, a10, a11, a12, a13, a14, a15, a16, a17, a18, a19, a20, a21, a22, a23, a24) (nI y) f := by
  have hn := sw_NW_le hC
  have hCC := hC
  obtain ⟨hkd, hw1, hw8, hp1, hp4, hlt, hs, ht, hk⟩ := hC
  refine sw_Ridle (mk' := (t : Int) - lt) hCC h hy hf (by omega) (by omega) (by omega) ?_ (fun _ => by omega) (fun fk' fw' fp' fl' fm' fc' fn' fr' gm' gc' gn' gr' tc' ts' tl' tm' a1' a2' a3' a4' a5' a6' a7' a8' a9' a10' a11' a12' a13' a14' a15' a16' a17' a18' a19' a20' a21' a22' a23' a24' h' => ?_)
  · rw [sw_m3_c he]
    rcases hm with hm | hm
    · exact Or.inl ⟨hm, rfl⟩
    · exact Or.inr (Or.inl ⟨by omega, hm, rfl⟩)
  · rw [sw_NW_id] at h'
    exact hp fk' fw' fp' fl' fm' fc' fn' fr' gm' gc' gn' gr' tc' ts' tl' tm' a1' a2' a3' a4' a5' a6' a7' a8' a9' a10' a11' a12' a13' a14' a15' a16' a17' a18' a19' a20' a21' a22' a23' a24' (sw_Rid h' he)
theorem sw_L733 {post : Int32 → St0 → Prop} {mc ms kc ks kd wd pn lt s t k : Nat} {v x18 : Int32} {E : Int} {fk fw fp fl fm fc fn fr gm gc gn gr tc ts tl tm : Int32} {a1 a2 a3 a4 a5 a6 a7 a8 a9 a10 a11 a12 a13 a14 a15 a16 a17 a18 a19 a20 a21 a22 a23 a24 : Nat → Int32} (hC : sw_C kd wd pn lt s t k) (hx : x18 = if kd = 2 then 1 else nI pn) (hE : (t : Int) < E ∧ E ≤ 1000) (hpost : post 1 ())
    (h : sw_R kd wd pn lt s t k v 1 1 (-1000) (1 - (pn : Int)) (sw_id s 0 1 0) (fk, fw, fp, fl, fm, fc, fn, fr, gm, gc, gn, gr, tc, ts, tl, tm, a1, a2, a3, a4, a5, a6, a7, a8, a9, a10, a11, a12, a13, a14, a15, a16, a17, a18, a19, a20, a21, a22, a23, a24)) :
    ∃ n, wL_lawOf_733 post mc ms (nI wd) (nI s) (nI k) x18 (nI ((s + 1) % 3)) (nI ((s + 2) % 3)) (sw_i ((t : Int) - lt)) (sw_i E) kc ks fk fw fp fl fm fc fn fr gm gc gn gr tc ts tl tm a1 a2 a3 a4 a5 a6 a7 a8 a9 a10 a11 a12 a13 a14 a15 a16 a17 a18 a19 a20 a21 a22 a23 a24 n 0 0 := by
  have hn := sw_NW_le hC
  have hCC := hC
  obtain ⟨hkd, hw1, hw8, hp1, hp4, hlt, hs, ht, hk⟩ := hC
  have hw : ∃ wn : Nat, wn ≤ 4 ∧ x18 = nI wn := by
    rw [hx]
    by_cases g : kd = 2
    · exact ⟨1, by omega, by rw [if_pos g]; rfl⟩
    · exact ⟨pn, hp4, by rw [if_neg g]⟩
  obtain ⟨wn, hwn, ex⟩ := hw
  refine pk_loop (σ := Unit) (fun n i _ => wL_lawOf_733 post mc ms (nI wd) (nI s) (nI k) x18 (nI ((s + 1) % 3)) (nI ((s + 2) % 3)) (sw_i ((t : Int) - lt)) (sw_i E) kc ks fk fw fp fl fm fc fn fr gm gc gn gr tc ts tl tm a1 a2 a3 a4 a5 a6 a7 a8 a9 a10 a11 a12 a13 a14 a15 a16 a17 a18 a19 a20 a21 a22 a23 a24 n 0 (nI i)) (fun _ _ => True) wn 0 () (by omega) trivial ?_ ?_
  · intro n _ _
    refine pk_le wn wn (fun _ => ?_) (fun z => absurd z (by omega)) ex rfl
    refine sw_Ridle (mk' := (t : Int) - lt) hCC h (by omega) sw_nb1 (by omega) (by omega) (by omega) ?_ (fun _ => by omega) (fun fk' fw' fp' fl' fm' fc' fn' fr' gm' gc' gn' gr' tc' ts' tl' tm' a1' a2' a3' a4' a5' a6' a7' a8' a9' a10' a11' a12' a13' a14' a15' a16' a17' a18' a19' a20' a21' a22' a23' a24' h => br_t rfl ?_)
    · rw [sw_m3_c (sw_id2 hs 0 1 0 1), sw_m3_own hs ht (by omega) (sw_id_s 0 1 1) sw_G_s (fun j _ hj => by rw [sw_id_o 0 hj]; decide)]
      exact Or.inr (Or.inr ⟨by omega, by omega, rfl⟩)
    replace h := sw_Rid h (sw_id2 hs 0 1 0 1)
    have h : sw_R kd wd pn lt s t k v 1 1 ((t : Int) - lt) (sw_NW kd wd pn lt t) (sw_id s 0 1 1) (fk', fw', fp', fl', fm', fc', fn', fr', gm', gc', gn', gr', tc', ts', tl', tm', a1', a2', a3', a4', a5', a6', a7', a8', a9', a10', a11', a12', a13', a14', a15', a16', a17', a18', a19', a20', a21', a22', a23', a24') := h
    refine sw_Rmark h (br_t rfl ?_)
    refine sw_Rres h (br_t rfl ?_)
    refine sw_Ropen hCC h hk (by omega) (fun _ _ => by omega) (fun fk'' fw'' fp'' fl'' fm'' fc'' fn'' fr'' gm'' gc'' gn'' gr'' tc'' ts'' tl'' tm'' a1'' a2'' a3'' a4'' a5'' a6'' a7'' a8'' a9'' a10'' a11'' a12'' a13'' a14'' a15'' a16'' a17'' a18'' a19'' a20'' a21'' a22'' a23'' a24'' h => br_t ?_ ?_)
    · rw [if_pos ⟨rfl, rfl⟩, hx, Int32.sub_zero]
    have e1 : sw_m3 (sw_id s 1 1 1) (sw_G s t 1) lt = 1000 := sw_m3_idle (fun j hj => by
      by_cases g : j = s
      · rw [g, sw_id_s]
        decide
      · rw [sw_id_o 1 g]
        decide)
    have e2 : sw_m3 (sw_id s 1 0 1) (sw_G s t 1) lt = -1000 := sw_m3_early (by omega) (sw_G_or s t 1) (j := (s + 1) % 3) (by omega) (sw_id_1 hs 1 0 1) (sw_G_o (by omega))
    have e3 : sw_m3 (sw_id s 0 1 1) (sw_G s t 1) lt = (t : Int) - lt := sw_m3_own hs ht (by omega) (sw_id_s 0 1 1) sw_G_s (fun j _ hj => by rw [sw_id_o 0 hj]; decide)
    refine sw_RidleQ (sw_id s 1 1 1) hCC h hs sw_nb1 (sw_id0 hs 0 1 1 1) (Or.inl (by omega)) (fun fk''' fw''' fp''' fl''' fm''' fc''' fn''' fr''' gm''' gc''' gn''' gr''' tc''' ts''' tl''' tm''' a1''' a2''' a3''' a4''' a5''' a6''' a7''' a8''' a9''' a10''' a11''' a12''' a13''' a14''' a15''' a16''' a17''' a18''' a19''' a20''' a21''' a22''' a23''' a24''' h => br_t rfl ?_)
    refine sw_RidleQ (sw_id s 1 0 1) hCC h (by omega) sw_nb0 (sw_id1 hs 1 1 1 0) (Or.inr (by omega)) (fun fk'''' fw'''' fp'''' fl'''' fm'''' fc'''' fn'''' fr'''' gm'''' gc'''' gn'''' gr'''' tc'''' ts'''' tl'''' tm'''' a1'''' a2'''' a3'''' a4'''' a5'''' a6'''' a7'''' a8'''' a9'''' a10'''' a11'''' a12'''' a13'''' a14'''' a15'''' a16'''' a17'''' a18'''' a19'''' a20'''' a21'''' a22'''' a23'''' a24'''' h => br_t rfl ?_)
    refine sw_Rmark h (br_t rfl ?_)
    refine sw_RidleQ (sw_id s 1 1 1) hCC h (by omega) sw_nb1 (sw_id1 hs 1 0 1 1) (Or.inl (by omega)) (fun fk''''' fw''''' fp''''' fl''''' fm''''' fc''''' fn''''' fr''''' gm''''' gc''''' gn''''' gr''''' tc''''' ts''''' tl''''' tm''''' a1''''' a2''''' a3''''' a4''''' a5''''' a6''''' a7''''' a8''''' a9''''' a10''''' a11''''' a12''''' a13''''' a14''''' a15''''' a16''''' a17''''' a18''''' a19''''' a20''''' a21''''' a22''''' a23''''' a24''''' h => ?_)
    refine sw_RidleQ (sw_id s 0 1 1) hCC h hs sw_nb0 (sw_id0 hs 1 1 1 0) (Or.inr (by omega)) (fun fk'''''' fw'''''' fp'''''' fl'''''' fm'''''' fc'''''' fn'''''' fr'''''' gm'''''' gc'''''' gn'''''' gr'''''' tc'''''' ts'''''' tl'''''' tm'''''' a1'''''' a2'''''' a3'''''' a4'''''' a5'''''' a6'''''' a7'''''' a8'''''' a9'''''' a10'''''' a11'''''' a12'''''' a13'''''' a14'''''' a15'''''' a16'''''' a17'''''' a18'''''' a19'''''' a20'''''' a21'''''' a22'''''' a23'''''' a24'''''' h => ?_)
    exact ⟨19 + 1, sw_L873 hCC hx hpost 19 0 (by omega) fk'''''' fw'''''' fp'''''' fl'''''' fm'''''' fc'''''' fn'''''' fr'''''' gm'''''' gc'''''' gn'''''' gr'''''' tc'''''' ts'''''' tl'''''' tm'''''' a1'''''' a2'''''' a3'''''' a4'''''' a5'''''' a6'''''' a7'''''' a8'''''' a9'''''' a10'''''' a11'''''' a12'''''' a13'''''' a14'''''' a15'''''' a16'''''' a17'''''' a18'''''' a19'''''' a20'''''' a21'''''' a22'''''' a23'''''' a24'''''' h⟩
  · intro n i _ hi _ hn
    refine pk_le wn i (fun z => absurd z (by omega)) (fun _ => ?_) ex rfl
    have hm : i * wd ≤ 4 * 8 := Nat.mul_le_mul (by omega) hw8
    have e : sw_i E + nI i * nI wd = sw_i (E + ((i * wd : Nat) : Int)) := by rw [pk_mul, sw_in, sw_ia]
    generalize i * wd = z at hm e
    exact sw_lt ((t : Int) - lt) (E + (z : Int)) rfl e (fun _ => nm_r (nI_1 i) (hn () trivial)) (fun g => absurd g (by omega))
theorem sw_L585 {post : Int32 → St0 → Prop} {mc ms kc ks kd wd pn lt s t k : Nat} {v x8 x18 z0 : Int32} {fk fw fp fl fm fc fn fr gm gc gn gr tc ts tl tm : Int32} {a1 a2 a3 a4 a5 a6 a7 a8 a9 a10 a11 a12 a13 a14 a15 a16 a17 a18 a19 a20 a21 a22 a23 a24 : Nat → Int32} (hC : sw_C kd wd pn lt s t k) (hx : x18 = if kd = 2 then 1 else nI pn) (hE : kd ≠ 2 → ∃ E : Int, (t : Int) < E ∧ E ≤ 1000 ∧ z0 + x8 = sw_i E) (hpost : post 1 ())
    (h : sw_R kd wd pn lt s t k v 1 1 (-1000) (1 - (pn : Int)) (fun _ => 0) (fk, fw, fp, fl, fm, fc, fn, fr, gm, gc, gn, gr, tc, ts, tl, tm, a1, a2, a3, a4, a5, a6, a7, a8, a9, a10, a11, a12, a13, a14, a15, a16, a17, a18, a19, a20, a21, a22, a23, a24)) : wL_lawOf_585 post mc ms (nI kd) (nI wd) x8 (nI lt) v (nI s) (nI k) (nI t) x18 z0 kc ks fk fw fp fl fm fc fn fr gm gc gn gr tc ts tl tm a1 a2 a3 a4 a5 a6 a7 a8 a9 a10 a11 a12 a13 a14 a15 a16 a17 a18 a19 a20 a21 a22 a23 a24 := by
  have hCC := hC
  obtain ⟨hkd, hw1, hw8, hp1, hp4, hlt, hs, ht, hk⟩ := hC
  have hd0 : (0 : Int) ≤ ((t / wd : Nat) : Int) := Int.natCast_nonneg _
  have d3 : ¬ (3 : Int32) = 0 := by decide
  unfold wL_lawOf_585
  refine sw_Ropen hCC h hk (by omega) (fun _ _ => by omega) (fun fk' fw' fp' fl' fm' fc' fn' fr' gm' gc' gn' gr' tc' ts' tl' tm' a1' a2' a3' a4' a5' a6' a7' a8' a9' a10' a11' a12' a13' a14' a15' a16' a17' a18' a19' a20' a21' a22' a23' a24' h => br_t (by rw [if_pos ⟨rfl, rfl⟩, hx]) ?_)
  refine sw_Rpend hCC h hk (by omega) (fun _ _ => by omega) (fun fk'' fw'' fp'' fl'' fm'' fc'' fn'' fr'' gm'' gc'' gn'' gr'' tc'' ts'' tl'' tm'' a1'' a2'' a3'' a4'' a5'' a6'' a7'' a8'' a9'' a10'' a11'' a12'' a13'' a14'' a15'' a16'' a17'' a18'' a19'' a20'' a21'' a22'' a23'' a24'' h => br_t (if_pos ⟨rfl, rfl⟩) ?_)
  have ek : (nI k + 1) &&& 3 = nI ((k + 1) % 4) := by rw [nI_1]; exact pk_andN (by omega) 2 (by decide)
  rw [ek]
  refine sw_Ropen hCC h (by omega) (by omega) (fun _ _ => by omega) (fun fk''' fw''' fp''' fl''' fm''' fc''' fn''' fr''' gm''' gc''' gn''' gr''' tc''' ts''' tl''' tm''' a1''' a2''' a3''' a4''' a5''' a6''' a7''' a8''' a9''' a10''' a11''' a12''' a13''' a14''' a15''' a16''' a17''' a18''' a19''' a20''' a21''' a22''' a23''' a24''' h => br_t (if_neg (fun z => absurd z.2 (by omega))) ?_)
  refine sw_Rpos h hs (br_t (by rw [if_pos rfl]; rfl) ?_)
  refine sw_Rread h hs (by omega) (fun _ => rfl) (br_t rfl ?_)
  refine sw_Rres h (br_t rfl ⟨d3, nm_r (e' := nI ((s + 1) % 3)) (by rw [nI_1]; exact pk_rem (d := 3) (by omega) (by omega) (by omega)) ⟨d3, nm_r (e' := nI ((s + 2) % 3)) ?_ ?_⟩⟩)
  · have e2 : nI s + 2 = nI (s + 2) := nI_add s 2
    rw [e2]
    exact pk_rem (d := 3) (by omega) (by omega) (by omega)
  refine sw_Ridle (mk' := -1000) hCC h (by omega) sw_nb1 (by omega) (by omega) (by omega) ?_ (fun _ => by omega) (fun fk'''' fw'''' fp'''' fl'''' fm'''' fc'''' fn'''' fr'''' gm'''' gc'''' gn'''' gr'''' tc'''' ts'''' tl'''' tm'''' a1'''' a2'''' a3'''' a4'''' a5'''' a6'''' a7'''' a8'''' a9'''' a10'''' a11'''' a12'''' a13'''' a14'''' a15'''' a16'''' a17'''' a18'''' a19'''' a20'''' a21'''' a22'''' a23'''' a24'''' h => br_t rfl ?_)
  · rw [sw_m3_c (sw_idz hs), sw_m3_early (by omega) (sw_G_or s t 1) (j := (s + 2) % 3) (by omega) (sw_id_2 hs 0 1 0) (sw_G_o (by omega))]
    exact Or.inr (Or.inl ⟨by omega, by omega, rfl⟩)
  rw [sw_nw0 ⟨hw1, hw8⟩ hp1] at h
  replace h := sw_Rid h (sw_idz hs)
  refine sw_Rmark h (br_t rfl (nm_r (e' := sw_i ((t : Int) - lt)) (by rw [sw_in, sw_in, sw_is]) ?_))
  refine pk_eq kd 2 (fun g => nm_r (e' := sw_i ((t : Int) + wd)) (by rw [sw_in, sw_in, sw_ia]) ?_) (fun g => ?_)
  · exact sw_L733 hCC hx (by omega) hpost h
  · obtain ⟨E, h1, h2, h3⟩ := hE g
    exact nm_r (e' := sw_i E) h3 (sw_L733 hCC hx ⟨h1, h2⟩ hpost h)
end
section
theorem sw_L570 {post : Int32 → St0 → Prop} {mc ms kc ks kd wd pn lt s t k : Nat} {v x8 x18 x19 : Int32} {fk fw fp fl fm fc fn fr gm gc gn gr tc ts tl tm : Int32} {a1 a2 a3 a4 a5 a6 a7 a8 a9 a10 a11 a12 a13 a14 a15 a16 a17 a18 a19 a20 a21 a22 a23 a24 : Nat → Int32} (hC : sw_C kd wd pn lt s t k) (hx : x18 = if kd = 2 then 1 else nI pn) (hE : ∃ E : Int, (t : Int) < E ∧ E ≤ 1000 ∧ x19 + x8 = sw_i E) (hpost : post 1 ())
    (h : sw_R kd wd pn lt s t k v 1 1 (-1000) (1 - (pn : Int)) (fun _ => 0) (fk, fw, fp, fl, fm, fc, fn, fr, gm, gc, gn, gr, tc, ts, tl, tm, a1, a2, a3, a4, a5, a6, a7, a8, a9, a10, a11, a12, a13, a14, a15, a16, a17, a18, a19, a20, a21, a22, a23, a24)) : wL_lawOf_570 post mc ms (nI kd) (nI wd) x8 (nI lt) v (nI s) (nI k) (nI t) x19 x18 kc ks fk fw fp fl fm fc fn fr gm gc gn gr tc ts tl tm a1 a2 a3 a4 a5 a6 a7 a8 a9 a10 a11 a12 a13 a14 a15 a16 a17 a18 a19 a20 a21 a22 a23 a24 := by
  have hkd : kd ≤ 2 := hC.1
  unfold wL_lawOf_570
  exact pk_eq kd 2 (fun g => sw_L585 hC hx (fun z => absurd g z) hpost h) (fun g => sw_L585 hC hx (fun _ => hE) hpost h)
theorem sw_mulr {z : Int} {wd pn : Nat} (hz : -100 ≤ z ∧ z ≤ 100) (hw : wd ≤ 8) (hp : pn ≤ 4) : -1000000 ≤ z * wd + wd * pn ∧ z * wd + wd * pn ≤ 1000000 := by
  have : wd = 0 ∨ wd = 1 ∨ wd = 2 ∨ wd = 3 ∨ wd = 4 ∨ wd = 5 ∨ wd = 6 ∨ wd = 7 ∨ wd = 8 := by omega
  rcases this with h | h | h | h | h | h | h | h | h <;> subst h <;> omega
theorem sw_tp {z : Int} {t wd : Nat} (hw : 1 ≤ wd) : (t : Int) < z * wd ↔ ((t / wd : Nat) : Int) < z := by
  have h := sw_dle (z := z) (mk := (t : Int)) hw
  rw [Int.natCast_ediv]
  omega
theorem sw_dist (z : Int) (wd pn : Nat) : z * (wd : Int) + wd * pn = (z + pn) * wd := by
  rw [Int.add_mul, Int.mul_comm (wd : Int) pn]
theorem sw_L502 {post : Int32 → St0 → Prop} {mc ms kc ks kd wd pn lt s t k : Nat} {v x8 : Int32} {fk fw fp fl fm fc fn fr gm gc gn gr tc ts tl tm : Int32} {a1 a2 a3 a4 a5 a6 a7 a8 a9 a10 a11 a12 a13 a14 a15 a16 a17 a18 a19 a20 a21 a22 a23 a24 : Nat → Int32} (hC : sw_C kd wd pn lt s t k) (hpk : kd = 2 → pn = 1) (hx8 : x8 = sw_i ((wd : Int) * pn)) (hpost : post 1 ())
    (h : sw_R kd wd pn lt s t k v 1 1 (-1000) (1 - (pn : Int)) (fun _ => 0) (fk, fw, fp, fl, fm, fc, fn, fr, gm, gc, gn, gr, tc, ts, tl, tm, a1, a2, a3, a4, a5, a6, a7, a8, a9, a10, a11, a12, a13, a14, a15, a16, a17, a18, a19, a20, a21, a22, a23, a24)) : ∃ n, wL_lawOf_502 post mc ms (nI kd) (nI wd) x8 (nI lt) v (nI s) (nI k) (nI t) kc ks fk fw fp fl fm fc fn fr gm gc gn gr tc ts tl tm a1 a2 a3 a4 a5 a6 a7 a8 a9 a10 a11 a12 a13 a14 a15 a16 a17 a18 a19 a20 a21 a22 a23 a24 n 0 0 (-40) := by
  have hCC := hC
  obtain ⟨hkd, hw1, hw8, hp1, hp4, hlt, hs, ht, hk⟩ := hC
  have ht' : t / wd < 64 := Nat.lt_of_le_of_lt (Nat.div_le_self _ _) ht
  have tp : ∀ z : Int, (t : Int) < z * wd ↔ ((t / wd : Nat) : Int) < z := fun z => sw_tp hw1
  have hend : ((t / wd : Nat) : Int) * wd ≤ t := by
    have := tp ((t / wd : Nat) : Int)
    omega
  generalize ep : t / wd = p at *
  have main : ∃ n, ∀ x y, x = sw_i (-40 + (0 : Nat)) → y = sw_i (max 0 (min (pn : Int) (-40 + (0 : Nat) - (p - pn + 1)))) → wL_lawOf_502 post mc ms (nI kd) (nI wd) x8 (nI lt) v (nI s) (nI k) (nI t) kc ks fk fw fp fl fm fc fn fr gm gc gn gr tc ts tl tm a1 a2 a3 a4 a5 a6 a7 a8 a9 a10 a11 a12 a13 a14 a15 a16 a17 a18 a19 a20 a21 a22 a23 a24 n y 0 x := by
    refine pk_loop (fun n i (s9 : Int32) => ∀ x y, x = sw_i (-40 + (i : Nat)) → y = sw_i (max 0 (min (pn : Int) (-40 + (i : Nat) - (p - pn + 1)))) → wL_lawOf_502 post mc ms (nI kd) (nI wd) x8 (nI lt) v (nI s) (nI k) (nI t) kc ks fk fw fp fl fm fc fn fr gm gc gn gr tc ts tl tm a1 a2 a3 a4 a5 a6 a7 a8 a9 a10 a11 a12 a13 a14 a15 a16 a17 a18 a19 a20 a21 a22 a23 a24 n y s9 x) (fun i s9 => (0 : Int) < -40 + (i : Nat) - (p - pn + 1) → s9 = sw_i (((p : Int) - pn + 1) * wd)) 104 0 0 (by omega) (fun z => absurd z (by omega)) ?_ ?_
    · intro n s9 hs9 x y hx hy
      refine sw_le 64 (-40 + (104 : Nat)) rfl hx (fun _ => ?_) (fun g => absurd g (by omega))
      have e1 : max 0 (min (pn : Int) (-40 + (104 : Nat) - (p - pn + 1))) = pn := by omega
      rw [e1, ← sw_in] at hy
      have e2 := hs9 (by omega)
      have hE : ∃ E : Int, (t : Int) < E ∧ E ≤ 1000 ∧ s9 + x8 = sw_i E := by
        refine ⟨((p : Int) + 1) * wd, (tp _).mpr (by omega), ?_, ?_⟩
        · rw [Int.add_mul]
          omega
        · rw [e2, hx8, sw_ia, sw_dist]
          exact congrArg sw_i (congrArg (fun z => z * (wd : Int)) (by omega))
      refine pk_eq kd 2 (fun g => sw_L570 hCC ?_ hE hpost h) (fun g => sw_L570 hCC ?_ hE hpost h)
      · rw [if_pos g]
      · rw [if_neg g, hy]
    · intro n i s9 hi hs9 hn x y hx hy
      refine sw_le 64 (-40 + (i : Nat)) rfl hx (fun g => absurd g (by omega)) (fun _ => ?_)
      have em : x * nI wd = sw_i ((-40 + (i : Nat)) * wd) := by rw [hx, sw_in, sw_im]
      have em2 : x * nI wd + x8 = sw_i ((-40 + (i : Nat)) * wd + wd * pn) := by rw [em, hx8, sw_ia]
      have r1 : -1000000 ≤ (-40 + (i : Nat) : Int) * wd ∧ (-40 + (i : Nat) : Int) * wd ≤ 1000000 := sw_rng (by omega) hw8
      have r2 := sw_mulr (z := (-40 + (i : Nat) : Int)) (wd := wd) (pn := pn) (by omega) hw8 hp4
      have q1 := tp (-40 + (i : Nat))
      have q2 := tp (-40 + (i : Nat) + pn)
      rw [← sw_dist] at q2
      refine sw_lt (t : Int) ((-40 + (i : Nat)) * wd) (sw_in t) em (fun g => nm_e (hn s9 (fun z => hs9 (by omega)) _ _ (sw_nx hx) ?_)) (fun g => ?_) (by omega) r1
      · rw [hy]
        exact congrArg sw_i (by omega)
      refine sw_le ((-40 + (i : Nat)) * wd + wd * pn) (t : Int) em2 (sw_in t) (fun g2 => nm_e (hn s9 (fun z => hs9 (by omega)) _ _ (sw_nx hx) ?_)) (fun g2 => ?_) r2 (by omega)
      · rw [hy]
        exact congrArg sw_i (by omega)
      have ey : y + 1 = sw_i (max 0 (min (pn : Int) (-40 + (i + 1 : Nat) - (p - pn + 1)))) := by
        rw [hy, sw_i1]
        exact congrArg sw_i (by omega)
      refine sw_eq (max 0 (min (pn : Int) (-40 + (i : Nat) - (p - pn + 1)))) 0 hy rfl (fun g3 => ?_) (fun g3 => ?_)
      · refine nm_e (nm_e (nm_e (hn _ (fun _ => ?_) _ _ (sw_nx hx) ey)))
        rw [em]
        exact congrArg sw_i (congrArg (fun z => z * (wd : Int)) (by omega))
      · exact nm_e (nm_e (hn s9 (fun z => hs9 (by omega)) _ _ (sw_nx hx) ey))
  obtain ⟨n, hn⟩ := main
  exact ⟨n, hn (-40) 0 rfl (by rw [show max 0 (min (pn : Int) (-40 + (0 : Nat) - (p - pn + 1))) = 0 by omega]; rfl)⟩
theorem sw_L425 {post : Int32 → St0 → Prop} {mc ms kc ks kd wd pn lt d : Nat} {v x8 : Int32} {fk fw fp fl fm fc fn fr gm gc gn gr tc ts tl tm : Int32} {a1 a2 a3 a4 a5 a6 a7 a8 a9 a10 a11 a12 a13 a14 a15 a16 a17 a18 a19 a20 a21 a22 a23 a24 : Nat → Int32} (hC : sw_C kd wd pn lt (d / 256) (d % 64) (d / 64 % 4)) (hd : d < 768) (hpk : kd = 2 → pn = 1) (hx8 : x8 = sw_i ((wd : Int) * pn)) (hpost : post 1 ())
    (h : sw_R kd wd pn lt (d / 256) (d % 64) (d / 64 % 4) v 1 1 (-1000) (1 - (pn : Int)) (fun _ => 0) (fk, fw, fp, fl, fm, fc, fn, fr, gm, gc, gn, gr, tc, ts, tl, tm, a1, a2, a3, a4, a5, a6, a7, a8, a9, a10, a11, a12, a13, a14, a15, a16, a17, a18, a19, a20, a21, a22, a23, a24)) : wL_lawOf_425 post mc ms (nI kd) (nI wd) x8 (nI lt) (nI d) v 1 1 1 kc ks fk fw fp fl fm fc fn fr gm gc gn gr tc ts tl tm a1 a2 a3 a4 a5 a6 a7 a8 a9 a10 a11 a12 a13 a14 a15 a16 a17 a18 a19 a20 a21 a22 a23 a24 := by
  have n64 : ¬ (64 : Int32) = 0 := by decide
  have d64 : nI d / 64 = nI (d / 64) := pk_div (d := 64) (by omega) (by omega) (by omega)
  unfold wL_lawOf_425
  refine br_t rfl (sw_Rlate h (br_t rfl (sw_Rmark h (br_t rfl (br_f sw_one ⟨by decide, nm_r (e' := nI (d / 256)) (pk_div (d := 256) (by omega) (by omega) (by omega)) ⟨n64, by decide, nm_r (e' := nI (d / 64 % 4)) ?_ ⟨n64, nm_r (e' := nI (d % 64)) (pk_rem (d := 64) (by omega) (by omega) (by omega)) ?_⟩⟩⟩)))))
  · rw [d64]
    exact pk_rem (d := 4) (by omega) (by omega) (by omega)
  · exact sw_L502 hC hpk hx8 hpost h
theorem sw_L384 {post : Int32 → St0 → Prop} {mc ms kc ks kd wd pn lt d : Nat} {v x8 : Int32} {fk fw fp fl fm fc fn fr gm gc gn gr tc ts tl tm : Int32} {a1 a2 a3 a4 a5 a6 a7 a8 a9 a10 a11 a12 a13 a14 a15 a16 a17 a18 a19 a20 a21 a22 a23 a24 : Nat → Int32} (hC : sw_C kd wd pn lt 0 0 0) (hd : d < 768) (hv : ¬ v < -50) (hv2 : v ≤ 50) (hpk : kd = 2 → pn = 1) (hx8 : x8 = sw_i ((wd : Int) * pn)) (hpost : post 1 ())
    (h : sw_R kd wd pn lt 0 0 0 0 0 0 (-1000) (1 - (pn : Int)) (fun _ => 0) (fk, fw, fp, fl, fm, fc, fn, fr, gm, gc, gn, gr, tc, ts, tl, tm, a1, a2, a3, a4, a5, a6, a7, a8, a9, a10, a11, a12, a13, a14, a15, a16, a17, a18, a19, a20, a21, a22, a23, a24)) : wL_lawOf_384 post mc ms (nI kd) (nI wd) x8 (nI lt) (nI d) v 1 kc ks fk fw fp fl fm fc fn fr gm gc gn gr tc ts tl tm a1 a2 a3 a4 a5 a6 a7 a8 a9 a10 a11 a12 a13 a14 a15 a16 a17 a18 a19 a20 a21 a22 a23 a24 := by
  obtain ⟨hkd, hw1, hw8, hp1, hp4, hlt, hs, ht, hk⟩ := hC
  have hC' : sw_C kd wd pn lt (d / 256) (d % 64) (d / 64 % 4) := ⟨hkd, hw1, hw8, hp1, hp4, hlt, by omega, by omega, by omega⟩
  unfold wL_lawOf_384
  refine sw_Rarr0 hd hv hv2 h (fun fk' fw' fp' fl' fm' fc' fn' fr' gm' gc' gn' gr' tc' ts' tl' tm' a1' a2' a3' a4' a5' a6' a7' a8' a9' a10' a11' a12' a13' a14' a15' a16' a17' a18' a19' a20' a21' a22' a23' a24' h => br_f sw_one ?_)
  unfold wL_lawOf_407
  refine br_t rfl (sw_RreadAll1 hC' h (fun fk'' fw'' fp'' fl'' fm'' fc'' fn'' fr'' gm'' gc'' gn'' gr'' tc'' ts'' tl'' tm'' a1'' a2'' a3'' a4'' a5'' a6'' a7'' a8'' a9'' a10'' a11'' a12'' a13'' a14'' a15'' a16'' a17'' a18'' a19'' a20'' a21'' a22'' a23'' a24'' h => br_f sw_one ?_))
  exact sw_L425 hC' hd hpk hx8 hpost h
theorem sw_L383 {post : Int32 → St0 → Prop} {mc ms kc ks kd wd pn lt : Nat} {x6 x7 x8 x9 x10 x11 : Int32} {fk fw fp fl fm fc fn fr gm gc gn gr tc ts tl tm : Int32} {a1 a2 a3 a4 a5 a6 a7 a8 a9 a10 a11 a12 a13 a14 a15 a16 a17 a18 a19 a20 a21 a22 a23 a24 : Nat → Int32} (hb : x10 < 0 ∨ 768 ≤ x10 ∨ x11 < -50 ∨ ¬ x11 ≤ 50) (hpost : post 1 ())
    (h : sw_R kd wd pn lt 0 0 0 0 0 0 (-1000) (1 - (pn : Int)) (fun _ => 0) (fk, fw, fp, fl, fm, fc, fn, fr, gm, gc, gn, gr, tc, ts, tl, tm, a1, a2, a3, a4, a5, a6, a7, a8, a9, a10, a11, a12, a13, a14, a15, a16, a17, a18, a19, a20, a21, a22, a23, a24)) : wL_lawOf_383 post mc ms x6 x7 x8 x9 x10 x11 kc ks fk fw fp fl fm fc fn fr gm gc gn gr tc ts tl tm a1 a2 a3 a4 a5 a6 a7 a8 a9 a10 a11 a12 a13 a14 a15 a16 a17 a18 a19 a20 a21 a22 a23 a24 := by
  unfold wL_lawOf_383 wL_lawOf_384
  refine sw_arrBad hb (br_t rfl ?_)
  unfold wL_lawOf_407
  refine br_t rfl (sw_RreadAll0 h (by omega) (by omega) (br_t rfl ?_))
  unfold wL_lawOf_425
  exact br_t rfl (sw_Rlate h (br_t rfl (sw_Rmark h (br_t rfl (br_t rfl (sw_Rres h (br_t rfl hpost)))))))
theorem sw_L347 {post : Int32 → St0 → Prop} {mc ms kc ks kd wd pn lt : Nat} {x8 x10 x11 z0 z1 : Int32} {fk fw fp fl fm fc fn fr gm gc gn gr tc ts tl tm : Int32} {a1 a2 a3 a4 a5 a6 a7 a8 a9 a10 a11 a12 a13 a14 a15 a16 a17 a18 a19 a20 a21 a22 a23 a24 : Nat → Int32} (hC : sw_C kd wd pn lt 0 0 0) (hpk : kd = 2 → pn = 1) (hx8 : x8 = sw_i ((wd : Int) * pn)) (hz : z1 = z0) (hpost : post 1 ())
    (h : sw_R kd wd pn lt 0 0 0 0 0 0 (-1000) (1 - (pn : Int)) (fun _ => 0) (fk, fw, fp, fl, fm, fc, fn, fr, gm, gc, gn, gr, tc, ts, tl, tm, a1, a2, a3, a4, a5, a6, a7, a8, a9, a10, a11, a12, a13, a14, a15, a16, a17, a18, a19, a20, a21, a22, a23, a24)) : wL_lawOf_347 post mc ms (nI kd) (nI wd) x8 (nI lt) x10 x11 z0 z1 kc ks fk fw fp fl fm fc fn fr gm gc gn gr tc ts tl tm a1 a2 a3 a4 a5 a6 a7 a8 a9 a10 a11 a12 a13 a14 a15 a16 a17 a18 a19 a20 a21 a22 a23 a24 := by
  unfold wL_lawOf_347
  refine br_t hz (br_c (fun g => sw_L383 (Or.inl g) hpost h) (fun g => br_c (fun g2 => sw_L383 (Or.inr (Or.inl g2)) hpost h) (fun g2 => br_c (fun g3 => sw_L383 (Or.inr (Or.inr (Or.inl g3))) hpost h) (fun g3 => br_c (fun g4 => sw_L383 (Or.inr (Or.inr (Or.inr (Int32.not_le.mpr g4)))) hpost h) (fun g4 => ?_)))))
  have h768 : ∃ d : Nat, d < 768 ∧ x10 = nI d := by
    rcases pk_ix x10 (n := 768) (by omega) with z | z | z
    · exact absurd z g
    · exact absurd z g2
    · exact z
  obtain ⟨d, hd, e⟩ := h768
  subst e
  exact sw_L384 hC hd g3 (Int32.not_lt.mp g4) hpk hx8 hpost h
/-- the law's flag 'it is a source' -/
def sw_S (x0 x12 : Int32) : Prop := (x12 = 0 ∧ (x0 < 0 ∨ 3 ≤ x0)) ∨ (x12 = 1 ∧ ∃ y : Nat, y < 3 ∧ x0 = nI y)
theorem sw_L326 {post : Int32 → St0 → Prop} {mc ms kc ks kd wd pn lt : Nat} {x0 x8 x10 x11 x12 z0 z1 : Int32} {fk fw fp fl fm fc fn fr gm gc gn gr tc ts tl tm : Int32} {a1 a2 a3 a4 a5 a6 a7 a8 a9 a10 a11 a12 a13 a14 a15 a16 a17 a18 a19 a20 a21 a22 a23 a24 : Nat → Int32} (hC : sw_C kd wd pn lt 0 0 0) (hpk : kd = 2 → pn = 1) (hx8 : x8 = sw_i ((wd : Int) * pn)) (hS : sw_S x0 x12) (hz : z1 = z0) (hpost : post 1 ())
    (h : sw_R kd wd pn lt 0 0 0 0 0 0 (-1000) (1 - (pn : Int)) (fun _ => 0) (fk, fw, fp, fl, fm, fc, fn, fr, gm, gc, gn, gr, tc, ts, tl, tm, a1, a2, a3, a4, a5, a6, a7, a8, a9, a10, a11, a12, a13, a14, a15, a16, a17, a18, a19, a20, a21, a22, a23, a24)) : wL_lawOf_326 post mc ms x0 (nI kd) (nI wd) x8 (nI lt) x10 x11 x12 z0 z1 kc ks fk fw fp fl fm fc fn fr gm gc gn gr tc ts tl tm a1 a2 a3 a4 a5 a6 a7 a8 a9 a10 a11 a12 a13 a14 a15 a16 a17 a18 a19 a20 a21 a22 a23 a24 := by
  unfold wL_lawOf_326
  refine br_t hz ?_
  rcases hS with ⟨e, g⟩ | ⟨e, y, hy, e2⟩
  · subst e
    exact sw_RposN g (br_t rfl (sw_L347 hC hpk hx8 rfl hpost h))
  · subst e e2
    refine sw_Rpos h hy (br_f sw_one (sw_L347 hC hpk hx8 ?_ hpost h))
    rw [nI_0, ite_self]
theorem sw_m3_0 {lt y : Nat} {g : Int32} (hlt : lt ≤ 20) (hy : y < 3) : sw_mv (sw_m3 (upd (fun _ => 0) y g) (sw_G 0 0 0) lt) (-1000) (-1000) := by
  have hj : ∃ j, j < 3 ∧ j ≠ y := by
    by_cases g : y = 0
    · exact ⟨1, by omega, by omega⟩
    · exact ⟨0, by omega, fun z => g z.symm⟩
  obtain ⟨j, j1, j2⟩ := hj
  rw [sw_m3_early (by omega) (sw_G_or 0 0 0) j1 (pk_un j2) (if_neg (fun z => absurd z.1 (by omega)))]
  exact Or.inr (Or.inl ⟨by omega, by omega, rfl⟩)
theorem sw_L304 {post : Int32 → St0 → Prop} {mc ms kc ks kd wd pn lt y : Nat} {f x8 x10 x11 z0 z1 : Int32} {fk fw fp fl fm fc fn fr gm gc gn gr tc ts tl tm : Int32} {a1 a2 a3 a4 a5 a6 a7 a8 a9 a10 a11 a12 a13 a14 a15 a16 a17 a18 a19 a20 a21 a22 a23 a24 : Nat → Int32} (hC : sw_C kd wd pn lt 0 0 0) (hpk : kd = 2 → pn = 1) (hx8 : x8 = sw_i ((wd : Int) * pn)) (hy : y < 3) (hz : z1 = z0) (hpost : post 1 ())
    (h : sw_R kd wd pn lt 0 0 0 0 0 0 (-1000) (1 - (pn : Int)) (upd (fun _ => 0) y f) (fk, fw, fp, fl, fm, fc, fn, fr, gm, gc, gn, gr, tc, ts, tl, tm, a1, a2, a3, a4, a5, a6, a7, a8, a9, a10, a11, a12, a13, a14, a15, a16, a17, a18, a19, a20, a21, a22, a23, a24)) : wL_lawOf_304 post mc ms (nI y) (nI kd) (nI wd) x8 (nI lt) x10 x11 1 z0 z1 kc ks fk fw fp fl fm fc fn fr gm gc gn gr tc ts tl tm a1 a2 a3 a4 a5 a6 a7 a8 a9 a10 a11 a12 a13 a14 a15 a16 a17 a18 a19 a20 a21 a22 a23 a24 := by
  have hCC := hC
  obtain ⟨hkd, hw1, hw8, hp1, hp4, hlt, hs, ht, hk⟩ := hC
  have hi : ∀ j, j < 3 → upd (upd (fun _ => 0) y f) y 0 j = (fun _ => (0 : Int32)) j := by
    intro j hj
    rw [sw_up, sw_up]
    by_cases g : j = y
    · rw [if_pos g]
    · rw [if_neg g, if_neg g]
  have hi2 : ∀ j, j < 3 → upd (upd (fun _ => 0) y f) y 0 j = upd (fun _ => (0 : Int32)) y 0 j := by
    intro j hj
    rw [hi j hj, sw_up, ite_self]
  unfold wL_lawOf_304
  refine br_t hz (sw_Ridle (mk' := -1000) hCC h hy sw_nb0 (by omega) (by omega) (by omega) (by rw [sw_m3_c hi2]; exact sw_m3_0 hlt hy) (fun z => absurd z (by omega)) (fun fk' fw' fp' fl' fm' fc' fn' fr' gm' gc' gn' gr' tc' ts' tl' tm' a1' a2' a3' a4' a5' a6' a7' a8' a9' a10' a11' a12' a13' a14' a15' a16' a17' a18' a19' a20' a21' a22' a23' a24' h => br_f sw_one ?_))
  rw [sw_nw0 ⟨hw1, hw8⟩ hp1] at h
  exact sw_L326 hCC hpk hx8 (Or.inr ⟨rfl, y, hy, rfl⟩) rfl hpost (sw_Rid h hi)
theorem sw_L289 {post : Int32 → St0 → Prop} {mc ms kc ks kd wd pn lt : Nat} {x0 x8 x10 x11 x12 z0 : Int32} {fk fw fp fl fm fc fn fr gm gc gn gr tc ts tl tm : Int32} {a1 a2 a3 a4 a5 a6 a7 a8 a9 a10 a11 a12 a13 a14 a15 a16 a17 a18 a19 a20 a21 a22 a23 a24 : Nat → Int32} (hC : sw_C kd wd pn lt 0 0 0) (hpk : kd = 2 → pn = 1) (hx8 : x8 = sw_i ((wd : Int) * pn)) (hS : sw_S x0 x12) (hpost : post 1 ())
    (h : sw_R kd wd pn lt 0 0 0 0 0 0 (-1000) (1 - (pn : Int)) (fun _ => 0) (fk, fw, fp, fl, fm, fc, fn, fr, gm, gc, gn, gr, tc, ts, tl, tm, a1, a2, a3, a4, a5, a6, a7, a8, a9, a10, a11, a12, a13, a14, a15, a16, a17, a18, a19, a20, a21, a22, a23, a24)) : wL_lawOf_289 post mc ms x0 (nI kd) (nI wd) x8 (nI lt) x10 x11 x12 z0 x0 kc ks fk fw fp fl fm fc fn fr gm gc gn gr tc ts tl tm a1 a2 a3 a4 a5 a6 a7 a8 a9 a10 a11 a12 a13 a14 a15 a16 a17 a18 a19 a20 a21 a22 a23 a24 := by
  have hCC := hC
  obtain ⟨hkd, hw1, hw8, hp1, hp4, hlt, hs, ht, hk⟩ := hC
  have HS := hS
  unfold wL_lawOf_289
  rcases hS with ⟨e, g⟩ | ⟨e, y, hy, e2⟩
  · subst e
    refine sw_RidleN g (br_t rfl ?_)
    unfold wL_lawOf_304
    exact br_t rfl (sw_RidleN g (br_t rfl (sw_L326 hCC hpk hx8 HS rfl hpost h)))
  · subst e e2
    refine sw_Ridle (mk' := -1000) hCC h hy rfl (by omega) (by omega) (by omega) (sw_m3_0 hlt hy) (fun z => absurd z (by omega)) (fun fk' fw' fp' fl' fm' fc' fn' fr' gm' gc' gn' gr' tc' ts' tl' tm' a1' a2' a3' a4' a5' a6' a7' a8' a9' a10' a11' a12' a13' a14' a15' a16' a17' a18' a19' a20' a21' a22' a23' a24' h => br_f sw_one ?_)
    rw [sw_nw0 ⟨hw1, hw8⟩ hp1] at h
    exact sw_L304 hCC hpk hx8 hy rfl hpost h
theorem sw_L271 {post : Int32 → St0 → Prop} {mc ms kc ks kd wd pn lt : Nat} {x0 x4 x8 x10 x11 x12 z0 z1 : Int32} {fk fw fp fl fm fc fn fr gm gc gn gr tc ts tl tm : Int32} {a1 a2 a3 a4 a5 a6 a7 a8 a9 a10 a11 a12 a13 a14 a15 a16 a17 a18 a19 a20 a21 a22 a23 a24 : Nat → Int32} (hC : sw_C kd wd pn lt 0 0 0) (hpk : kd = 2 → pn = 1) (hx8 : x8 = sw_i ((wd : Int) * pn)) (hS : sw_S x0 x12) (hz : z1 = z0) (hpost : post 1 ())
    (h : sw_R kd wd pn lt 0 0 0 0 0 0 (-1000) (1 - (pn : Int)) (fun _ => 0) (fk, fw, fp, fl, fm, fc, fn, fr, gm, gc, gn, gr, tc, ts, tl, tm, a1, a2, a3, a4, a5, a6, a7, a8, a9, a10, a11, a12, a13, a14, a15, a16, a17, a18, a19, a20, a21, a22, a23, a24)) : wL_lawOf_271 post mc ms x0 x4 (nI kd) (nI wd) x8 (nI lt) x10 x11 x12 z0 z1 kc ks fk fw fp fl fm fc fn fr gm gc gn gr tc ts tl tm a1 a2 a3 a4 a5 a6 a7 a8 a9 a10 a11 a12 a13 a14 a15 a16 a17 a18 a19 a20 a21 a22 a23 a24 := by
  unfold wL_lawOf_271
  exact br_t hz (br_c (fun _ => sw_L289 hC hpk hx8 hS hpost h) (fun _ => sw_L289 hC hpk hx8 hS hpost h))
theorem sw_L197a {post : Int32 → St0 → Prop} {mc ms kc ks kd wd pn lt : Nat} {x0 x4 x8 x10 x11 x12 : Int32} {fk fw fp fl fm fc fn fr gm gc gn gr tc ts tl tm : Int32} {a1 a2 a3 a4 a5 a6 a7 a8 a9 a10 a11 a12 a13 a14 a15 a16 a17 a18 a19 a20 a21 a22 a23 a24 : Nat → Int32} (hC : sw_C kd wd pn lt 0 0 0) (hpk : kd = 2 → pn = 1) (hx8 : x8 = sw_i ((wd : Int) * pn)) (hS : sw_S x0 x12) (hpost : post 1 ())
    (h : sw_R kd wd pn lt 0 0 0 0 0 0 (-1000) (1 - (pn : Int)) (fun _ => 0) (fk, fw, fp, fl, fm, fc, fn, fr, gm, gc, gn, gr, tc, ts, tl, tm, a1, a2, a3, a4, a5, a6, a7, a8, a9, a10, a11, a12, a13, a14, a15, a16, a17, a18, a19, a20, a21, a22, a23, a24)) : wpX_read (fun r u => match u with | (fk, fw, fp, fl, fm, fc, fn, fr, gm, gc, gn, gr, tc, ts, tl, tm, a1, a2, a3, a4, a5, a6, a7, a8, a9, a10, a11, a12, a13, a14, a15, a16, a17, a18, a19, a20, a21, a22, a23, a24) => (((x12 = 0 → (wL_lawOf_271 post mc ms x0 x4 (nI kd) (nI wd) x8 (nI lt) x10 x11 x12 (-2001) r kc ks fk fw fp fl fm fc fn fr gm gc gn gr tc ts tl tm a1 a2 a3 a4 a5 a6 a7 a8 a9 a10 a11 a12 a13 a14 a15 a16 a17 a18 a19 a20 a21 a22 a23 a24)) ∧ (¬ x12 = 0 → (wL_lawOf_271 post mc ms x0 x4 (nI kd) (nI wd) x8 (nI lt) x10 x11 x12 (-2002) r kc ks fk fw fp fl fm fc fn fr gm gc gn gr tc ts tl tm a1 a2 a3 a4 a5 a6 a7 a8 a9 a10 a11 a12 a13 a14 a15 a16 a17 a18 a19 a20 a21 a22 a23 a24))))) (fk, fw, fp, fl, fm, fc, fn, fr, gm, gc, gn, gr, tc, ts, tl, tm, a1, a2, a3, a4, a5, a6, a7, a8, a9, a10, a11, a12, a13, a14, a15, a16, a17, a18, a19, a20, a21, a22, a23, a24) x0 := by
  have HS := hS
  rcases hS with ⟨e, g⟩ | ⟨e, y, hy, e2⟩
  · subst e
    exact sw_RreadN g (br_t rfl (sw_L271 hC hpk hx8 HS rfl hpost h))
  · subst e e2
    exact sw_Rread h hy (by omega) (fun _ => rfl) (br_f sw_one (sw_L271 hC hpk hx8 HS rfl hpost h))
/-- the law's flag 'it is a key' -/
def sw_Y (x1 q : Int32) : Prop := (q = 0 ∧ (x1 < 0 ∨ 4 ≤ x1)) ∨ (q = 1 ∧ ∃ y : Nat, y < 4 ∧ x1 = nI y)
theorem sw_L197 {post : Int32 → St0 → Prop} {mc ms kc ks kd wd pn lt : Nat} {x0 x1 x4 x8 x10 x11 x12 z0 z1 q : Int32} {fk fw fp fl fm fc fn fr gm gc gn gr tc ts tl tm : Int32} {a1 a2 a3 a4 a5 a6 a7 a8 a9 a10 a11 a12 a13 a14 a15 a16 a17 a18 a19 a20 a21 a22 a23 a24 : Nat → Int32} (hC : sw_C kd wd pn lt 0 0 0) (hpk : kd = 2 → pn = 1) (hx8 : x8 = sw_i ((wd : Int) * pn)) (hS : sw_S x0 x12) (hY : sw_Y x1 q) (hz : z1 = z0) (hpost : post 1 ())
    (h : sw_R kd wd pn lt 0 0 0 0 0 0 (-1000) (1 - (pn : Int)) (fun _ => 0) (fk, fw, fp, fl, fm, fc, fn, fr, gm, gc, gn, gr, tc, ts, tl, tm, a1, a2, a3, a4, a5, a6, a7, a8, a9, a10, a11, a12, a13, a14, a15, a16, a17, a18, a19, a20, a21, a22, a23, a24)) : wL_lawOf_197 post mc ms x0 x1 x4 (nI kd) (nI wd) x8 (nI lt) x10 x11 x12 z0 z1 kc ks fk fw fp fl fm fc fn fr gm gc gn gr tc ts tl tm a1 a2 a3 a4 a5 a6 a7 a8 a9 a10 a11 a12 a13 a14 a15 a16 a17 a18 a19 a20 a21 a22 a23 a24 := by
  have hCC := hC
  obtain ⟨hkd, hw1, hw8, hp1, hp4, hlt, hs, ht, hk⟩ := hC
  unfold wL_lawOf_197
  refine br_t hz ?_
  rcases hY with ⟨_, g⟩ | ⟨_, y, hy, e2⟩
  · refine sw_RpendN g (br_t rfl ?_)
    refine sw_Rkept h (br_t rfl (sw_Rdig h (br_t rfl ?_)))
    refine sw_Rcrash h (fun fk' fw' fp' fl' fm' fc' fn' fr' gm' gc' gn' gr' tc' ts' tl' tm' a1' a2' a3' a4' a5' a6' a7' a8' a9' a10' a11' a12' a13' a14' a15' a16' a17' a18' a19' a20' a21' a22' a23' a24' h => br_t rfl ?_)
    refine sw_Rkeep h (fun fk'' fw'' fp'' fl'' fm'' fc'' fn'' fr'' gm'' gc'' gn'' gr'' tc'' ts'' tl'' tm'' a1'' a2'' a3'' a4'' a5'' a6'' a7'' a8'' a9'' a10'' a11'' a12'' a13'' a14'' a15'' a16'' a17'' a18'' a19'' a20'' a21'' a22'' a23'' a24'' h => br_t rfl ?_)
    refine sw_RreadAll0 h (by omega) (by omega) (br_t rfl ?_)
    exact sw_L197a hCC hpk hx8 hS hpost h
  · subst e2
    refine sw_Rpend hCC h hy (by omega) (fun z => absurd z (by omega)) (fun fk''' fw''' fp''' fl''' fm''' fc''' fn''' fr''' gm''' gc''' gn''' gr''' tc''' ts''' tl''' tm''' a1''' a2''' a3''' a4''' a5''' a6''' a7''' a8''' a9''' a10''' a11''' a12''' a13''' a14''' a15''' a16''' a17''' a18''' a19''' a20''' a21''' a22''' a23''' a24''' h => br_t (if_neg (fun z => absurd z.1 (by omega))) ?_)
    refine sw_Rkept h (br_t rfl (sw_Rdig h (br_t rfl ?_)))
    refine sw_Rcrash h (fun fk' fw' fp' fl' fm' fc' fn' fr' gm' gc' gn' gr' tc' ts' tl' tm' a1' a2' a3' a4' a5' a6' a7' a8' a9' a10' a11' a12' a13' a14' a15' a16' a17' a18' a19' a20' a21' a22' a23' a24' h => br_t rfl ?_)
    refine sw_Rkeep h (fun fk'' fw'' fp'' fl'' fm'' fc'' fn'' fr'' gm'' gc'' gn'' gr'' tc'' ts'' tl'' tm'' a1'' a2'' a3'' a4'' a5'' a6'' a7'' a8'' a9'' a10'' a11'' a12'' a13'' a14'' a15'' a16'' a17'' a18'' a19'' a20'' a21'' a22'' a23'' a24'' h => br_t rfl ?_)
    refine sw_RreadAll0 h (by omega) (by omega) (br_t rfl ?_)
    exact sw_L197a hCC hpk hx8 hS hpost h
theorem sw_L137 {post : Int32 → St0 → Prop} {mc ms kc ks kd wd pn lt : Nat} {x0 x1 x4 x8 x10 x11 x12 q : Int32} {fk fw fp fl fm fc fn fr gm gc gn gr tc ts tl tm : Int32} {a1 a2 a3 a4 a5 a6 a7 a8 a9 a10 a11 a12 a13 a14 a15 a16 a17 a18 a19 a20 a21 a22 a23 a24 : Nat → Int32} (hC : sw_C kd wd pn lt 0 0 0) (hpk : kd = 2 → pn = 1) (hx8 : x8 = sw_i ((wd : Int) * pn)) (hS : sw_S x0 x12) (hY : sw_Y x1 q) (hpost : post 1 ())
    (h : sw_R kd wd pn lt 0 0 0 0 0 0 (-1000) (1 - (pn : Int)) (fun _ => 0) (fk, fw, fp, fl, fm, fc, fn, fr, gm, gc, gn, gr, tc, ts, tl, tm, a1, a2, a3, a4, a5, a6, a7, a8, a9, a10, a11, a12, a13, a14, a15, a16, a17, a18, a19, a20, a21, a22, a23, a24)) : wL_lawOf_137 post mc ms x0 x1 x4 (nI kd) (nI wd) x8 (nI lt) x10 x11 x12 q kc ks fk fw fp fl fm fc fn fr gm gc gn gr tc ts tl tm a1 a2 a3 a4 a5 a6 a7 a8 a9 a10 a11 a12 a13 a14 a15 a16 a17 a18 a19 a20 a21 a22 a23 a24 := by
  have hCC := hC
  obtain ⟨hkd, hw1, hw8, hp1, hp4, hlt, hs, ht, hk⟩ := hC
  have HY := hY
  unfold wL_lawOf_137
  refine sw_Rmark h (br_t rfl (sw_Rres h (br_t rfl (sw_Rresult h (br_t rfl (sw_Rlate h (br_t rfl ?_)))))))
  rcases hY with ⟨e, g⟩ | ⟨e, y, hy, e2⟩
  · subst e
    exact sw_RopenN g (br_t rfl (sw_L197 hCC hpk hx8 hS HY rfl hpost h))
  · subst e e2
    refine sw_Ropen hCC h hy (by omega) (fun z => absurd z (by omega)) (fun fk' fw' fp' fl' fm' fc' fn' fr' gm' gc' gn' gr' tc' ts' tl' tm' a1' a2' a3' a4' a5' a6' a7' a8' a9' a10' a11' a12' a13' a14' a15' a16' a17' a18' a19' a20' a21' a22' a23' a24' h => br_f sw_one (sw_L197 hCC hpk hx8 hS HY ?_ hpost h))
    exact if_neg (fun z => absurd z.1 (by omega))
theorem sw_L121 {post : Int32 → St0 → Prop} {mc ms kc ks kd wd pn lt : Nat} {x0 x1 x4 x8 x10 x11 x12 : Int32} {fk fw fp fl fm fc fn fr gm gc gn gr tc ts tl tm : Int32} {a1 a2 a3 a4 a5 a6 a7 a8 a9 a10 a11 a12 a13 a14 a15 a16 a17 a18 a19 a20 a21 a22 a23 a24 : Nat → Int32} (hC : sw_C kd wd pn lt 0 0 0) (hpk : kd = 2 → pn = 1) (hx8 : x8 = sw_i ((wd : Int) * pn)) (hS : sw_S x0 x12) (hpost : post 1 ())
    (h : sw_R kd wd pn lt 0 0 0 0 0 0 (-1000) (1 - (pn : Int)) (fun _ => 0) (fk, fw, fp, fl, fm, fc, fn, fr, gm, gc, gn, gr, tc, ts, tl, tm, a1, a2, a3, a4, a5, a6, a7, a8, a9, a10, a11, a12, a13, a14, a15, a16, a17, a18, a19, a20, a21, a22, a23, a24)) : wL_lawOf_121 post mc ms x0 x1 x4 (nI kd) (nI wd) x8 (nI lt) x10 x11 x12 kc ks fk fw fp fl fm fc fn fr gm gc gn gr tc ts tl tm a1 a2 a3 a4 a5 a6 a7 a8 a9 a10 a11 a12 a13 a14 a15 a16 a17 a18 a19 a20 a21 a22 a23 a24 := by
  unfold wL_lawOf_121 wL_lawOf_136
  refine br_c (fun g => sw_L137 hC hpk hx8 hS (Or.inl ⟨rfl, Or.inl g⟩) hpost h) (fun g => br_c (fun g2 => sw_L137 hC hpk hx8 hS (Or.inl ⟨rfl, Or.inr g2⟩) hpost h) (fun g2 => sw_L137 hC hpk hx8 hS (Or.inr ⟨rfl, ?_⟩) hpost h))
  rcases pk_ix x1 (n := 4) (by omega) with z | z | z
  · exact absurd z g
  · exact absurd z g2
  · exact z
theorem sw_L105 {post : Int32 → St0 → Prop} {mc ms kc ks kd wd pn lt : Nat} {x0 x1 x4 x8 x10 x11 : Int32} {fk fw fp fl fm fc fn fr gm gc gn gr tc ts tl tm : Int32} {a1 a2 a3 a4 a5 a6 a7 a8 a9 a10 a11 a12 a13 a14 a15 a16 a17 a18 a19 a20 a21 a22 a23 a24 : Nat → Int32} (hC : sw_C kd wd pn lt 0 0 0) (hpk : kd = 2 → pn = 1) (hx8 : x8 = sw_i ((wd : Int) * pn)) (hpost : post 1 ())
    (h : sw_R kd wd pn lt 0 0 0 0 0 0 (-1000) (1 - (pn : Int)) (fun _ => 0) (fk, fw, fp, fl, fm, fc, fn, fr, gm, gc, gn, gr, tc, ts, tl, tm, a1, a2, a3, a4, a5, a6, a7, a8, a9, a10, a11, a12, a13, a14, a15, a16, a17, a18, a19, a20, a21, a22, a23, a24)) : wL_lawOf_105 post mc ms x0 x1 x4 (nI kd) (nI wd) x8 (nI lt) x10 x11 kc ks fk fw fp fl fm fc fn fr gm gc gn gr tc ts tl tm a1 a2 a3 a4 a5 a6 a7 a8 a9 a10 a11 a12 a13 a14 a15 a16 a17 a18 a19 a20 a21 a22 a23 a24 := by
  unfold wL_lawOf_105 wL_lawOf_120
  refine br_c (fun g => sw_L121 hC hpk hx8 (Or.inl ⟨rfl, Or.inl g⟩) hpost h) (fun g => br_c (fun g2 => sw_L121 hC hpk hx8 (Or.inl ⟨rfl, Or.inr g2⟩) hpost h) (fun g2 => sw_L121 hC hpk hx8 (Or.inr ⟨rfl, ?_⟩) hpost h))
  rcases pk_ix x0 (n := 3) (by omega) with z | z | z
  · exact absurd z g
  · exact absurd z g2
  · exact z
theorem sw_L50 {post : Int32 → St0 → Prop} {mc ms kc ks kd wd pn lt : Nat} {x0 x1 x3 x4 x8 : Int32} {fk fw fp fl fm fc fn fr gm gc gn gr tc ts tl tm : Int32} {a1 a2 a3 a4 a5 a6 a7 a8 a9 a10 a11 a12 a13 a14 a15 a16 a17 a18 a19 a20 a21 a22 a23 a24 : Nat → Int32} (hC : sw_C kd wd pn lt 0 0 0) (hpk : kd = 2 → pn = 1) (hx8 : x8 = sw_i ((wd : Int) * pn)) (hl : sw_cl x3 0 20 = nI lt) (hpost : post 1 ())
    (h : sw_R kd wd pn lt 0 0 0 0 0 0 (-1000) (1 - (pn : Int)) (fun _ => 0) (fk, fw, fp, fl, fm, fc, fn, fr, gm, gc, gn, gr, tc, ts, tl, tm, a1, a2, a3, a4, a5, a6, a7, a8, a9, a10, a11, a12, a13, a14, a15, a16, a17, a18, a19, a20, a21, a22, a23, a24)) : wL_lawOf_50 post mc ms x0 x1 x3 x4 (nI kd) (nI wd) x8 kc ks fk fw fp fl fm fc fn fr gm gc gn gr tc ts tl tm a1 a2 a3 a4 a5 a6 a7 a8 a9 a10 a11 a12 a13 a14 a15 a16 a17 a18 a19 a20 a21 a22 a23 a24 := by
  have go : ∀ z, wL_lawOf_81 post mc ms x0 x1 x4 (nI kd) (nI wd) x8 (nI lt) z kc ks fk fw fp fl fm fc fn fr gm gc gn gr tc ts tl tm a1 a2 a3 a4 a5 a6 a7 a8 a9 a10 a11 a12 a13 a14 a15 a16 a17 a18 a19 a20 a21 a22 a23 a24 := by
    intro z
    unfold wL_lawOf_81
    exact br_c (fun _ => sw_L105 hC hpk hx8 hpost h) (fun _ => sw_L105 hC hpk hx8 hpost h)
  unfold wL_lawOf_50
  refine sw_clamp ?_
  rw [hl]
  exact br_c (fun _ => go _) (fun _ => go _)
end
section
theorem sw_lawOf {post : Int32 → St0 → Prop} (x y z w v : Int32) (hpost : post 1 ()) : wpL_lawOf post 3018 48288 () x y z w v := by
  obtain ⟨kd, _, hkd, ek⟩ := sw_clN x 0 2 (by omega) (by omega)
  obtain ⟨wd, hw1, hw8, ew⟩ := sw_clN y 1 8 (by omega) (by omega)
  obtain ⟨p4, hp1, hp4, ep⟩ := sw_clN z 1 4 (by omega) (by omega)
  obtain ⟨lt, _, hlt, el⟩ := sw_clN w 0 20 (by omega) (by omega)
  have ek' : sw_cl x 0 2 = nI kd := ek
  have ew' : sw_cl y 1 8 = nI wd := ew
  have ep' : sw_cl z 1 4 = nI p4 := ep
  have el' : sw_cl w 0 20 = nI lt := el
  refine ⟨by omega, by omega, 3000, 48000, by omega, by omega, ?_⟩
  by_cases g : kd = 1
  · refine sw_init (pn := p4) (by omega) (by omega) ek' hkd ew' (Or.inl ⟨g, ep'⟩) el' (fun fk' fw' fp' fl' fm' fc' fn' fr' gm' gc' gn' gr' tc' ts' tl' tm' a1' a2' a3' a4' a5' a6' a7' a8' a9' a10' a11' a12' a13' a14' a15' a16' a17' a18' a19' a20' a21' a22' a23' a24' h => ?_)
    refine sw_clamp ?_
    refine sw_clamp ?_
    rw [ek', ew']
    refine pk_eq kd 1 (fun _ => ?_) (fun z => absurd g z)
    refine sw_clamp ?_
    rw [ep']
    exact sw_L50 ⟨hkd, hw1, hw8, hp1, hp4, hlt, by omega, by omega, by omega⟩ (fun z => by omega) (by rw [sw_in, sw_in, sw_im]) el' hpost h
  · refine sw_init (pn := 1) (by omega) (by omega) ek' hkd ew' (Or.inr ⟨g, rfl⟩) el' (fun fk' fw' fp' fl' fm' fc' fn' fr' gm' gc' gn' gr' tc' ts' tl' tm' a1' a2' a3' a4' a5' a6' a7' a8' a9' a10' a11' a12' a13' a14' a15' a16' a17' a18' a19' a20' a21' a22' a23' a24' h => ?_)
    refine sw_clamp ?_
    refine sw_clamp ?_
    rw [ek', ew']
    refine pk_eq kd 1 (fun z => absurd z g) (fun _ => ?_)
    exact sw_L50 ⟨hkd, hw1, hw8, by omega, by omega, hlt, by omega, by omega, by omega⟩ (fun _ => rfl) (by rw [sw_in]; exact congrArg sw_i (by omega)) el' hpost h
theorem i_vc (xs : Nat → Int32) (L : Nat) (hL : L ≤ 5) : wpL_law (fun r => r = 1) L xs := by
  unfold wpL_law
  refine sw_cell hL 0 (by omega) (fun r1 => ?_)
  refine sw_cell hL 1 (by omega) (fun r2 => ?_)
  refine sw_cell hL 2 (by omega) (fun r3 => ?_)
  refine sw_cell hL 3 (by omega) (fun r4 => ?_)
  refine sw_cell hL 4 (by omega) (fun r5 => ?_)
  exact ⟨3018, 48288, by omega, by omega, sw_lawOf r1 r2 r3 r4 r5 rfl⟩
end
