section
def sg_bt (x : Int32) (i : Nat) : Bool := x.toBitVec.getLsbD i
theorem sg_bext {x y : Int32} (h : ∀ i, i < 32 → sg_bt x i = sg_bt y i) : x = y := Int32.toBitVec_inj.mp (BitVec.eq_of_getLsbD_eq (fun i hi => h i hi))
theorem sg_bor (x y : Int32) (i : Nat) : sg_bt (x ||| y) i = (sg_bt x i || sg_bt y i) := by unfold sg_bt; rw [Int32.toBitVec_or, BitVec.getLsbD_or]
theorem sg_band (x y : Int32) (i : Nat) : sg_bt (x &&& y) i = (sg_bt x i && sg_bt y i) := by unfold sg_bt; rw [Int32.toBitVec_and, BitVec.getLsbD_and]
theorem sg_bxor (x y : Int32) (i : Nat) : sg_bt (x ^^^ y) i = (sg_bt x i ^^ sg_bt y i) := by unfold sg_bt; rw [Int32.toBitVec_xor, BitVec.getLsbD_xor]
theorem sg_bm1 : ∀ i, i < 32 → sg_bt (-1) i = true := by decide +kernel
theorem sg_b0 (i : Nat) : sg_bt 0 i = false := BitVec.getLsbD_zero
theorem sg_b1 : ∀ i, i < 32 → sg_bt 1 i = decide (i = 0) := by decide +kernel
theorem sg_sl : ∀ n, n < 32 → ((nI n &&& 31).toBitVec.smod 32).toNat = n := by decide +kernel
theorem sg_bsshr (n : Nat) (hn : n < 32) (x : Int32) {i : Nat} (hi : i < 32) : sg_bt (x >>> (nI n &&& 31)) i = if n + i < 32 then sg_bt x (n + i) else sg_bt x 31 := by
  unfold sg_bt
  rw [Int32.toBitVec_shiftRight]
  show (x.toBitVec.sshiftRight ((nI n &&& 31).toBitVec.smod 32).toNat).getLsbD i = _
  rw [sg_sl n hn, BitVec.getLsbD_sshiftRight, BitVec.msb_eq_getLsbD_last]
  simp [hi]
theorem sg_bone : ∀ n, n < 32 → ∀ i, i < 32 → sg_bt ((1 : Int32) <<< (nI n &&& 31)) i = decide (i = n) := by decide +kernel
/-- a mask's bit by a shift -/
theorem sg_test (w : Int32) {n : Nat} (hn : n < 32) : ((w >>> (nI n &&& 31)) &&& 1) = 0 ↔ sg_bt w n = false := by
  constructor
  · intro h
    have h2 : sg_bt ((w >>> (nI n &&& 31)) &&& 1) 0 = false := by rw [h]; exact sg_b0 0
    rw [sg_band, sg_bsshr n hn w (by omega), sg_b1 0 (by omega)] at h2
    simpa [hn] using h2
  · intro h
    apply sg_bext
    intro i hi
    rw [sg_band, sg_b0, sg_b1 i hi]
    by_cases e : i = 0
    · subst e
      rw [sg_bsshr n hn w (by omega)]
      simp [hn, h]
    · simp [e]
/-- a mask's bit by an and -/
theorem sg_tst2 (w : Int32) {n : Nat} (hn : n < 32) : (w &&& ((1 : Int32) <<< (nI n &&& 31))) = 0 ↔ sg_bt w n = false := by
  constructor
  · intro h
    have h2 : sg_bt (w &&& ((1 : Int32) <<< (nI n &&& 31))) n = false := by rw [h]; exact sg_b0 n
    rw [sg_band, sg_bone n hn n hn] at h2
    simpa using h2
  · intro h
    apply sg_bext
    intro i hi
    rw [sg_band, sg_b0, sg_bone n hn i hi]
    by_cases e : i = n
    · subst e
      simp [h]
    · simp [e]
theorem sg_set (w : Int32) {n i : Nat} (hn : n < 32) (hi : i < 32) : sg_bt (w ||| ((1 : Int32) <<< (nI n &&& 31))) i = (sg_bt w i || decide (i = n)) := by
  rw [sg_bor, sg_bone n hn i hi]
theorem sg_clr (w : Int32) {n i : Nat} (hn : n < 32) (hi : i < 32) : sg_bt (w &&& (((1 : Int32) <<< (nI n &&& 31)) ^^^ (-1))) i = (sg_bt w i && !decide (i = n)) := by
  rw [sg_band, sg_bxor, sg_bone n hn i hi, sg_bm1 i hi]
  simp
theorem sg_nf {x : Bool} (h : ¬ x = false) : x = true := by cases x <;> simp_all
theorem sg_nt {x : Bool} (h : ¬ x = true) : x = false := by cases x <;> simp_all
/-- a branch on a bit -/
theorem sg_brT {w : Int32} {n : Nat} {A B : Prop} (hn : n < 32) (f : sg_bt w n = false → A) (g : sg_bt w n = true → B) : (((w >>> (nI n &&& 31)) &&& 1) = 0 → A) ∧ (¬ ((w >>> (nI n &&& 31)) &&& 1) = 0 → B) :=
  ⟨fun z => f ((sg_test w hn).mp z), fun z => g (sg_nf (fun e => z ((sg_test w hn).mpr e)))⟩
theorem sg_brA {w : Int32} {n : Nat} {A B : Prop} (hn : n < 32) (f : sg_bt w n = false → A) (g : sg_bt w n = true → B) : ((w &&& ((1 : Int32) <<< (nI n &&& 31))) = 0 → A) ∧ (¬ (w &&& ((1 : Int32) <<< (nI n &&& 31))) = 0 → B) :=
  ⟨fun z => f ((sg_tst2 w hn).mp z), fun z => g (sg_nf (fun e => z ((sg_tst2 w hn).mpr e)))⟩
theorem sg_cl {n : Nat} (h : n < 24) : (nI n).toNatClampNeg = n := nI_clamp (by omega)
theorem sg_vp {n : Nat} (h : n < 24) : vp_in (nI n) 24 := vp_in_nI h (by omega)
end
section
def sg_isC (k : Int32) : Bool := decide (k = 4) || decide (k = 6) || decide (k = 13) || decide (k = 14)
theorem sg_isNode {post : Int32 → Prop} {nc ar hv ch kt ov tc lv wt : Int32} {a1 a2 a3 a4 a5 a6 a7 a8 a9 a10 : Nat → Int32} {c p : Nat} (hc : nc = nI c) (hp : p < c) (hc2 : c < 2 ^ 31) (h : post 1) : wpX_isNode post (nc, ar, hv, ch, kt, ov, tc, lv, wt, a1, a2, a3, a4, a5, a6, a7, a8, a9, a10) (nI p) :=
  br_f (nI_pos (by omega)) (br_f (by rw [hc]; exact nI_ge hp hc2) h)
theorem sg_ck {post : Int32 → Prop} {nc ar hv ch kt ov tc lv wt : Int32} {a1 a2 a3 a4 a5 a6 a7 a8 a9 a10 : Nat → Int32} {k : Int32} (h1 : sg_isC k = true → post 1) (h0 : sg_isC k = false → post 0) : wpX_isCellKind post (nc, ar, hv, ch, kt, ov, tc, lv, wt, a1, a2, a3, a4, a5, a6, a7, a8, a9, a10) k :=
  br_c (fun e => h1 (by simp [sg_isC, e])) (fun e4 => br_c (fun e => h1 (by simp [sg_isC, e])) (fun e6 => br_c (fun e => h1 (by simp [sg_isC, e])) (fun e13 => br_c (fun e => h1 (by simp [sg_isC, e])) (fun e14 => h0 (by simp [sg_isC, e4, e6, e13, e14])))))
theorem sg_ev_t {post : Int32 → Prop} {nc ar hv ch kt ov tc lv wt : Int32} {a1 a2 a3 a4 a5 a6 a7 a8 a9 a10 : Nat → Int32} {c p : Nat} (hc : nc = nI c) (hp : p < c) (hc2 : c ≤ 24) (hk : sg_isC (a1 p) = false) (h : post 1) : wpX_isEvent post (nc, ar, hv, ch, kt, ov, tc, lv, wt, a1, a2, a3, a4, a5, a6, a7, a8, a9, a10) (nI p) := by
  unfold wpX_isEvent; dsimp only
  refine sg_isNode hc hp (by omega) (br_f (by decide) ⟨sg_vp (by omega), ?_⟩)
  rw [sg_cl (by omega)]
  exact sg_ck (fun z => absurd (hk.symm.trans z) (by decide)) (fun _ => br_t rfl h)
theorem sg_ev_f {post : Int32 → Prop} {nc ar hv ch kt ov tc lv wt : Int32} {a1 a2 a3 a4 a5 a6 a7 a8 a9 a10 : Nat → Int32} {c p : Nat} (hc : nc = nI c) (hp : p < c) (hc2 : c ≤ 24) (hk : sg_isC (a1 p) = true) (h : post 0) : wpX_isEvent post (nc, ar, hv, ch, kt, ov, tc, lv, wt, a1, a2, a3, a4, a5, a6, a7, a8, a9, a10) (nI p) := by
  unfold wpX_isEvent; dsimp only
  refine sg_isNode hc hp (by omega) (br_f (by decide) ⟨sg_vp (by omega), ?_⟩)
  rw [sg_cl (by omega)]
  exact sg_ck (fun _ => br_f (by decide) h) (fun z => absurd (hk.symm.trans z) (by decide))
theorem sg_ce_t {post : Int32 → Prop} {nc ar hv ch kt ov tc lv wt : Int32} {a1 a2 a3 a4 a5 a6 a7 a8 a9 a10 : Nat → Int32} {c p : Nat} (hc : nc = nI c) (hp : p < c) (hc2 : c ≤ 24) (hk : sg_isC (a1 p) = true) (h : post 1) : wpX_isCell post (nc, ar, hv, ch, kt, ov, tc, lv, wt, a1, a2, a3, a4, a5, a6, a7, a8, a9, a10) (nI p) := by
  unfold wpX_isCell; dsimp only
  refine sg_isNode hc hp (by omega) (br_f (by decide) ⟨sg_vp (by omega), ?_⟩)
  rw [sg_cl (by omega)]
  exact sg_ck (fun _ => br_f (by decide) h) (fun z => absurd (hk.symm.trans z) (by decide))
theorem sg_has {post : Int32 → Prop} {nc ar hv ch kt ov tc lv wt : Int32} {a1 a2 a3 a4 a5 a6 a7 a8 a9 a10 : Nat → Int32} {p : Nat} (hp : p < 24) (ht : sg_bt hv p = true → post 1) (hf : sg_bt hv p = false → post 0) : wpX_has post (nc, ar, hv, ch, kt, ov, tc, lv, wt, a1, a2, a3, a4, a5, a6, a7, a8, a9, a10) (nI p) :=
  sg_brT (by omega) hf ht
theorem sg_give {post : Int32 → St1 → Prop} {nc ar hv ch kt ov tc lv wt : Int32} {a1 a2 a3 a4 a5 a6 a7 a8 a9 a10 : Nat → Int32} {p : Nat} {x : Int32} (hp : p < 24) (h : post 1 (nc, ar, hv ||| ((1 : Int32) <<< (nI p &&& 31)), ch, kt, ov, tc, lv, wt, a1, a2, a3, a4, a5, a6, upd a7 p x, a8, a9, a10)) : wpX_give post (nc, ar, hv, ch, kt, ov, tc, lv, wt, a1, a2, a3, a4, a5, a6, a7, a8, a9, a10) (nI p) x :=
  nm_e ⟨sg_vp hp, nm_r (by rw [sg_cl hp]) h⟩
/-! events, by kinds: t tells, x is the value -/
theorem sg_leSrc {ψ : Int32 → St1 → Prop} {nc ar hv ch kt ov tc lv wt : Int32} {a1 a2 a3 a4 a5 a6 a7 a8 a9 a10 : Nat → Int32} {n : Nat} (hn : n < 24) (hk : a1 n = 0 ∨ a1 n = 11)
    (h1 : sg_bt kt n = true → ψ 1 (nc, ar, hv ||| ((1 : Int32) <<< (nI n &&& 31)), ch, kt, ov, tc, lv, wt, a1, a2, a3, a4, a5, a6, upd a7 n (a9 n), a8, a9, a10)) (h0 : ¬ sg_bt kt n = true → ψ 0 (nc, ar, hv, ch, kt, ov, tc, lv, wt, a1, a2, a3, a4, a5, a6, a7, a8, a9, a10)) : wpX_lookAtEvent ψ (nc, ar, hv, ch, kt, ov, tc, lv, wt, a1, a2, a3, a4, a5, a6, a7, a8, a9, a10) (nI n) := by
  have e := sg_cl hn
  have go : wX_lookAtEvent_24 ψ (nI n) nc ar hv ch kt ov tc lv wt a1 a2 a3 a4 a5 a6 a7 a8 a9 a10 := by
    unfold wX_lookAtEvent_24
    rw [e]
    exact sg_brT (by omega) (fun z => h0 (by simp [z])) (fun z => ⟨sg_vp hn, sg_give hn (br_f (by decide) (h1 z))⟩)
  rcases hk with hk | hk
  · have hk' : a1 (nI n).toNatClampNeg = 0 := by rw [e]; exact hk
    exact And.intro (sg_vp hn) (nm_r hk' ⟨sg_vp hn, nm_e (br_t rfl go)⟩)
  · have hk' : a1 (nI n).toNatClampNeg = 11 := by rw [e]; exact hk
    exact And.intro (sg_vp hn) (nm_r hk' ⟨sg_vp hn, nm_e (br_f (by decide) (br_t rfl go))⟩)
theorem sg_leChange {ψ : Int32 → St1 → Prop} {nc ar hv ch kt ov tc lv wt : Int32} {a1 a2 a3 a4 a5 a6 a7 a8 a9 a10 : Nat → Int32} {n x : Nat} (hn : n < 24) (hx : x < 24) (hk : a1 n = 9) (hX : a2 n = nI x)
    (h1 : sg_bt ch x = true → ψ 1 (nc, ar, hv ||| ((1 : Int32) <<< (nI n &&& 31)), ch, kt, ov, tc, lv, wt, a1, a2, a3, a4, a5, a6, upd a7 n (a8 x), a8, a9, a10)) (h0 : ¬ sg_bt ch x = true → ψ 0 (nc, ar, hv, ch, kt, ov, tc, lv, wt, a1, a2, a3, a4, a5, a6, a7, a8, a9, a10)) : wpX_lookAtEvent ψ (nc, ar, hv, ch, kt, ov, tc, lv, wt, a1, a2, a3, a4, a5, a6, a7, a8, a9, a10) (nI n) := by
  have e := sg_cl hn
  have ex := sg_cl hx
  have hk' : a1 (nI n).toNatClampNeg = 9 := by rw [e]; exact hk
  have hX' : a2 (nI n).toNatClampNeg = nI x := by rw [e]; exact hX
  refine And.intro (sg_vp hn) (nm_r hk' ⟨sg_vp hn, nm_r hX' (br_f (by decide) (br_f (by decide) (br_t rfl (sg_brT (by omega) (fun z => h0 (by simp [z])) (fun z => ⟨sg_vp hx, ?_⟩)))))⟩)
  rw [ex]
  exact sg_give hn (br_f (by decide) (h1 z))
theorem sg_le122 {ψ : Int32 → St1 → Prop} {nc ar hv ch kt ov tc lv wt : Int32} {a1 a2 a3 a4 a5 a6 a7 a8 a9 a10 : Nat → Int32} {n x : Nat} (hn : n < 24) (hx : x < 24)
    (h1 : sg_bt hv x = true → ψ 1 (nc, ar, hv ||| ((1 : Int32) <<< (nI n &&& 31)), ch, kt, ov, tc, lv, wt, a1, a2, a3, a4, a5, a6, upd a7 n (a7 x), a8, a9, a10)) (h0 : ¬ sg_bt hv x = true → ψ 0 (nc, ar, hv, ch, kt, ov, tc, lv, wt, a1, a2, a3, a4, a5, a6, a7, a8, a9, a10)) : wX_lookAtEvent_122 ψ (nI n) (nI x) nc ar hv ch kt ov tc lv wt a1 a2 a3 a4 a5 a6 a7 a8 a9 a10 := by
  unfold wX_lookAtEvent_122
  rw [sg_cl hx]
  exact sg_has hx (fun z => br_f (by decide) ⟨sg_vp hx, sg_give hn (br_f (by decide) (h1 z))⟩) (fun z => br_t rfl (h0 (by simp [z])))
theorem sg_leSwitch {ψ : Int32 → St1 → Prop} {nc ar hv ch kt ov tc lv wt : Int32} {a1 a2 a3 a4 a5 a6 a7 a8 a9 a10 : Nat → Int32} {n x y z : Nat} (hn : n < 24) (hx : x < 24) (hy : y < 24) (hz : z < 24) (hk : a1 n = 10) (hX : a2 n = nI x) (hY : a3 n = nI y) (hZ : a4 n = nI z)
    (h1 : sg_bt hv (if a7 x = 0 then z else y) = true → ψ 1 (nc, ar, hv ||| ((1 : Int32) <<< (nI n &&& 31)), ch, kt, ov, tc, lv, wt, a1, a2, a3, a4, a5, a6, upd a7 n (a7 (if a7 x = 0 then z else y)), a8, a9, a10)) (h0 : ¬ sg_bt hv (if a7 x = 0 then z else y) = true → ψ 0 (nc, ar, hv, ch, kt, ov, tc, lv, wt, a1, a2, a3, a4, a5, a6, a7, a8, a9, a10)) : wpX_lookAtEvent ψ (nc, ar, hv, ch, kt, ov, tc, lv, wt, a1, a2, a3, a4, a5, a6, a7, a8, a9, a10) (nI n) := by
  have e := sg_cl hn
  have ex := sg_cl hx
  have hk' : a1 (nI n).toNatClampNeg = 10 := by rw [e]; exact hk
  have hX' : a2 (nI n).toNatClampNeg = nI x := by rw [e]; exact hX
  refine And.intro (sg_vp hn) (nm_r hk' ⟨sg_vp hn, nm_r hX' (br_f (by decide) (br_f (by decide) (br_f (by decide) (br_t rfl ⟨sg_vp hx, ?_⟩))))⟩)
  rw [ex, e, hY, hZ]
  refine br_c (fun q => ⟨sg_vp hn, ?_⟩) (fun q => ⟨sg_vp hn, ?_⟩)
  · rw [if_pos q] at h1 h0
    exact sg_le122 hn hz h1 h0
  · rw [if_neg q] at h1 h0
    exact sg_le122 hn hy h1 h0
theorem sg_mg35 {ψ : Int32 → St1 → Prop} {nc ar hv ch kt ov tc lv wt : Int32} {a1 a2 a3 a4 a5 a6 a7 a8 a9 a10 : Nat → Int32} {n x y : Nat} (hn : n < 24) (hx : x < 24) (hy : y < 24)
    (h1 : sg_bt hv x = true → ψ 1 (nc, ar, hv ||| ((1 : Int32) <<< (nI n &&& 31)), ch, kt, ov, tc, lv, wt, a1, a2, a3, a4, a5, a6, upd a7 n (a7 x), a8, a9, a10))
    (h2 : sg_bt hv x = false → sg_bt hv y = true → ψ 1 (nc, ar, hv ||| ((1 : Int32) <<< (nI n &&& 31)), ch, kt, ov, tc, lv, wt, a1, a2, a3, a4, a5, a6, upd a7 n (a7 y), a8, a9, a10))
    (h0 : sg_bt hv x = false → sg_bt hv y = false → ψ 0 (nc, ar, hv, ch, kt, ov, tc, lv, wt, a1, a2, a3, a4, a5, a6, a7, a8, a9, a10)) : wX_merge_35 ψ (nI n) (nI x) (nI y) nc ar hv ch kt ov tc lv wt a1 a2 a3 a4 a5 a6 a7 a8 a9 a10 := by
  unfold wX_merge_35
  rw [sg_cl hx, sg_cl hy]
  exact sg_has hx (fun p => br_f (by decide) ⟨sg_vp hx, sg_give hn ⟨rfl, h1 p⟩⟩) (fun p => br_t rfl (sg_has hy (fun q => br_f (by decide) ⟨sg_vp hy, sg_give hn (br_f (by decide) (h2 p q))⟩) (fun q => br_t rfl (h0 p q))))
def sg_mv (p q : Bool) (x y : Int32) : Int32 := if p = true then (if q = true then x + y else x) else y
theorem sg_leMerge {ψ : Int32 → St1 → Prop} {nc ar hv ch kt ov tc lv wt : Int32} {a1 a2 a3 a4 a5 a6 a7 a8 a9 a10 : Nat → Int32} {n x y : Nat} (hn : n < 24) (hx : x < 24) (hy : y < 24) (hk : a1 n = 3) (hX : a2 n = nI x) (hY : a3 n = nI y)
    (h1 : (sg_bt hv x || sg_bt hv y) = true → ψ 1 (nc, ar, hv ||| ((1 : Int32) <<< (nI n &&& 31)), ch, kt, ov, tc, lv, wt, a1, a2, a3, a4, a5, a6, upd a7 n (sg_mv (sg_bt hv x) (sg_bt hv y) (a7 x) (a7 y)), a8, a9, a10)) (h0 : ¬ (sg_bt hv x || sg_bt hv y) = true → ψ 0 (nc, ar, hv, ch, kt, ov, tc, lv, wt, a1, a2, a3, a4, a5, a6, a7, a8, a9, a10)) : wpX_lookAtEvent ψ (nc, ar, hv, ch, kt, ov, tc, lv, wt, a1, a2, a3, a4, a5, a6, a7, a8, a9, a10) (nI n) := by
  have e := sg_cl hn
  have hk' : a1 (nI n).toNatClampNeg = 3 := by rw [e]; exact hk
  have hX' : a2 (nI n).toNatClampNeg = nI x := by rw [e]; exact hX
  refine And.intro (sg_vp hn) (nm_r hk' ⟨sg_vp hn, nm_r hX' (br_f (by decide) (br_f (by decide) (br_f (by decide) (br_f (by decide) (br_t rfl ⟨sg_vp hn, ?_⟩)))))⟩)
  rw [e, hY]
  have m35 : ∀ φ : Int32 → St1 → Prop, (sg_bt hv y = true → sg_bt hv x = true → False) → ((sg_bt hv x || sg_bt hv y) = true → φ 1 (nc, ar, hv ||| ((1 : Int32) <<< (nI n &&& 31)), ch, kt, ov, tc, lv, wt, a1, a2, a3, a4, a5, a6, upd a7 n (sg_mv (sg_bt hv x) (sg_bt hv y) (a7 x) (a7 y)), a8, a9, a10)) → (¬ (sg_bt hv x || sg_bt hv y) = true → φ 0 (nc, ar, hv, ch, kt, ov, tc, lv, wt, a1, a2, a3, a4, a5, a6, a7, a8, a9, a10)) → wX_merge_35 φ (nI n) (nI x) (nI y) nc ar hv ch kt ov tc lv wt a1 a2 a3 a4 a5 a6 a7 a8 a9 a10 := by
    intro φ hb g1 g0
    refine sg_mg35 hn hx hy (fun p => ?_) (fun p q => ?_) (fun p q => g0 (by simp [p, q]))
    · have q : sg_bt hv y = false := sg_nt (fun q => hb q p)
      have g := g1 (by simp [p])
      rw [p, q] at g
      exact g
    · have g := g1 (by simp [q])
      rw [p, q] at g
      exact g
  unfold wpX_merge; dsimp only
  refine sg_has hx (fun p => br_f (by decide) (sg_has hy (fun q => br_f (by decide) ⟨sg_vp hx, sg_vp hy, ?_⟩) (fun q => br_t rfl ?_))) (fun p => br_t rfl ?_)
  · rw [sg_cl hx, sg_cl hy]
    have g := h1 (by simp [p])
    rw [p, q] at g
    exact sg_give hn ⟨rfl, rfl, g⟩
  · exact m35 _ (fun z _ => absurd (q.symm.trans z) (by decide)) (fun z => ⟨rfl, h1 z⟩) (fun z => ⟨rfl, h0 z⟩)
  · exact m35 _ (fun _ z => absurd (p.symm.trans z) (by decide)) (fun z => ⟨rfl, h1 z⟩) (fun z => ⟨rfl, h0 z⟩)
theorem sg_leFilter {ψ : Int32 → St1 → Prop} {nc ar hv ch kt ov tc lv wt : Int32} {a1 a2 a3 a4 a5 a6 a7 a8 a9 a10 : Nat → Int32} {n x : Nat} (hn : n < 24) (hx : x < 24) (hk : a1 n = 2) (hX : a2 n = nI x)
    (h1 : (sg_bt hv x && !decide (a7 x < a3 n)) = true → ψ 1 (nc, ar, hv ||| ((1 : Int32) <<< (nI n &&& 31)), ch, kt, ov, tc, lv, wt, a1, a2, a3, a4, a5, a6, upd a7 n (a7 x), a8, a9, a10)) (h0 : ¬ (sg_bt hv x && !decide (a7 x < a3 n)) = true → ψ 0 (nc, ar, hv, ch, kt, ov, tc, lv, wt, a1, a2, a3, a4, a5, a6, a7, a8, a9, a10)) : wpX_lookAtEvent ψ (nc, ar, hv, ch, kt, ov, tc, lv, wt, a1, a2, a3, a4, a5, a6, a7, a8, a9, a10) (nI n) := by
  have e := sg_cl hn
  have ex := sg_cl hx
  have hk' : a1 (nI n).toNatClampNeg = 2 := by rw [e]; exact hk
  have hX' : a2 (nI n).toNatClampNeg = nI x := by rw [e]; exact hX
  refine And.intro (sg_vp hn) (nm_r hk' ⟨sg_vp hn, nm_r hX' (br_f (by decide) (br_f (by decide) (br_f (by decide) (br_f (by decide) (br_f (by decide) ?_)))))⟩)
  refine sg_has hx (fun p => br_f (by decide) ⟨sg_vp hx, nm_e (br_f (by decide) (br_t rfl ⟨sg_vp hn, ?_⟩))⟩) (fun p => br_t rfl (h0 (by simp [p])))
  rw [e, ex]
  exact br_c (fun q => h0 (by simp [q])) (fun q => sg_give hn (br_f (by decide) (h1 (by simp [p, q]))))
theorem sg_leSnap {ψ : Int32 → St1 → Prop} {nc ar hv ch kt ov tc lv wt : Int32} {a1 a2 a3 a4 a5 a6 a7 a8 a9 a10 : Nat → Int32} {n x y : Nat} (hn : n < 24) (hx : x < 24) (hy : y < 24) (hk : a1 n = 5) (hX : a2 n = nI x) (hY : a3 n = nI y)
    (h1 : sg_bt hv x = true → ψ 1 (nc, ar, hv ||| ((1 : Int32) <<< (nI n &&& 31)), ch, kt, ov, tc, lv, wt, a1, a2, a3, a4, a5, a6, upd a7 n (a7 x + a7 y), a8, a9, a10)) (h0 : ¬ sg_bt hv x = true → ψ 0 (nc, ar, hv, ch, kt, ov, tc, lv, wt, a1, a2, a3, a4, a5, a6, a7, a8, a9, a10)) : wpX_lookAtEvent ψ (nc, ar, hv, ch, kt, ov, tc, lv, wt, a1, a2, a3, a4, a5, a6, a7, a8, a9, a10) (nI n) := by
  have e := sg_cl hn
  have ex := sg_cl hx
  have hk' : a1 (nI n).toNatClampNeg = 5 := by rw [e]; exact hk
  have hX' : a2 (nI n).toNatClampNeg = nI x := by rw [e]; exact hX
  refine And.intro (sg_vp hn) (nm_r hk' ⟨sg_vp hn, nm_r hX' (br_f (by decide) (br_f (by decide) (br_f (by decide) (br_f (by decide) (br_f (by decide) ?_)))))⟩)
  refine sg_has hx (fun p => br_f (by decide) ⟨sg_vp hx, nm_e (br_f (by decide) (br_f (by decide) (br_t rfl ⟨sg_vp hn, ?_⟩)))⟩) (fun p => br_t rfl (h0 (by simp [p])))
  rw [e, ex, hY, sg_cl hy]
  exact ⟨sg_vp hy, sg_give hn ⟨rfl, h1 p⟩⟩
theorem sg_leGate {ψ : Int32 → St1 → Prop} {nc ar hv ch kt ov tc lv wt : Int32} {a1 a2 a3 a4 a5 a6 a7 a8 a9 a10 : Nat → Int32} {n x y : Nat} (hn : n < 24) (hx : x < 24) (hy : y < 24) (hk : a1 n = 7) (hX : a2 n = nI x) (hY : a3 n = nI y)
    (h1 : (sg_bt hv x && !decide (a7 y = 0)) = true → ψ 1 (nc, ar, hv ||| ((1 : Int32) <<< (nI n &&& 31)), ch, kt, ov, tc, lv, wt, a1, a2, a3, a4, a5, a6, upd a7 n (a7 x), a8, a9, a10)) (h0 : ¬ (sg_bt hv x && !decide (a7 y = 0)) = true → ψ 0 (nc, ar, hv, ch, kt, ov, tc, lv, wt, a1, a2, a3, a4, a5, a6, a7, a8, a9, a10)) : wpX_lookAtEvent ψ (nc, ar, hv, ch, kt, ov, tc, lv, wt, a1, a2, a3, a4, a5, a6, a7, a8, a9, a10) (nI n) := by
  have e := sg_cl hn
  have ex := sg_cl hx
  have hk' : a1 (nI n).toNatClampNeg = 7 := by rw [e]; exact hk
  have hX' : a2 (nI n).toNatClampNeg = nI x := by rw [e]; exact hX
  refine And.intro (sg_vp hn) (nm_r hk' ⟨sg_vp hn, nm_r hX' (br_f (by decide) (br_f (by decide) (br_f (by decide) (br_f (by decide) (br_f (by decide) ?_)))))⟩)
  refine sg_has hx (fun p => br_f (by decide) ⟨sg_vp hx, nm_e (br_f (by decide) (br_f (by decide) (br_f (by decide) (br_t rfl ⟨sg_vp hn, ?_⟩))))⟩) (fun p => br_t rfl (h0 (by simp [p])))
  rw [e, ex, hY, sg_cl hy]
  exact ⟨sg_vp hy, br_c (fun q => h0 (by simp [q])) (fun q => sg_give hn (br_f (by decide) (h1 (by simp [p, q]))))⟩
theorem sg_leCount {ψ : Int32 → St1 → Prop} {nc ar hv ch kt ov tc lv wt : Int32} {a1 a2 a3 a4 a5 a6 a7 a8 a9 a10 : Nat → Int32} {n x : Nat} (hn : n < 24) (hx : x < 24) (hk : a1 n = 8) (hX : a2 n = nI x)
    (h1 : sg_bt hv x = true → ψ 1 (nc, ar, hv ||| ((1 : Int32) <<< (nI n &&& 31)), ch, kt, ov, tc, lv, wt, a1, a2, a3, a4, a5, a6, upd a7 n (a9 n + a7 x), a8, a9, a10)) (h0 : ¬ sg_bt hv x = true → ψ 0 (nc, ar, hv, ch, kt, ov, tc, lv, wt, a1, a2, a3, a4, a5, a6, a7, a8, a9, a10)) : wpX_lookAtEvent ψ (nc, ar, hv, ch, kt, ov, tc, lv, wt, a1, a2, a3, a4, a5, a6, a7, a8, a9, a10) (nI n) := by
  have e := sg_cl hn
  have ex := sg_cl hx
  have hk' : a1 (nI n).toNatClampNeg = 8 := by rw [e]; exact hk
  have hX' : a2 (nI n).toNatClampNeg = nI x := by rw [e]; exact hX
  refine And.intro (sg_vp hn) (nm_r hk' ⟨sg_vp hn, nm_r hX' (br_f (by decide) (br_f (by decide) (br_f (by decide) (br_f (by decide) (br_f (by decide) ?_)))))⟩)
  refine sg_has hx (fun p => br_f (by decide) ⟨sg_vp hx, nm_e (br_f (by decide) (br_f (by decide) (br_f (by decide) (br_f (by decide) (br_t rfl ⟨sg_vp hn, ?_⟩)))))⟩) (fun p => br_t rfl (h0 (by simp [p])))
  rw [e, ex]
  exact sg_give hn ⟨rfl, h1 p⟩
theorem sg_leOnce {ψ : Int32 → St1 → Prop} {nc ar hv ch kt ov tc lv wt : Int32} {a1 a2 a3 a4 a5 a6 a7 a8 a9 a10 : Nat → Int32} {n x : Nat} (hn : n < 24) (hx : x < 24) (hk : a1 n = 12) (hX : a2 n = nI x)
    (h1 : (sg_bt hv x && !sg_bt ov n) = true → ψ 1 (nc, ar, hv ||| ((1 : Int32) <<< (nI n &&& 31)), ch, kt, ov, tc, lv, wt, a1, a2, a3, a4, a5, a6, upd a7 n (a7 x), a8, a9, a10)) (h0 : ¬ (sg_bt hv x && !sg_bt ov n) = true → ψ 0 (nc, ar, hv, ch, kt, ov, tc, lv, wt, a1, a2, a3, a4, a5, a6, a7, a8, a9, a10)) : wpX_lookAtEvent ψ (nc, ar, hv, ch, kt, ov, tc, lv, wt, a1, a2, a3, a4, a5, a6, a7, a8, a9, a10) (nI n) := by
  have e := sg_cl hn
  have ex := sg_cl hx
  have hk' : a1 (nI n).toNatClampNeg = 12 := by rw [e]; exact hk
  have hX' : a2 (nI n).toNatClampNeg = nI x := by rw [e]; exact hX
  refine And.intro (sg_vp hn) (nm_r hk' ⟨sg_vp hn, nm_r hX' (br_f (by decide) (br_f (by decide) (br_f (by decide) (br_f (by decide) (br_f (by decide) ?_)))))⟩)
  refine sg_has hx (fun p => br_f (by decide) ⟨sg_vp hx, nm_e (br_f (by decide) (br_f (by decide) (br_f (by decide) (br_f (by decide) (br_f (by decide) ?_)))))⟩) (fun p => br_t rfl (h0 (by simp [p])))
  rw [ex]
  exact sg_brT (by omega) (fun q => sg_give hn (br_f (by decide) (h1 (by simp [p, q])))) (fun q => h0 (by simp [q]))
/-! cells -/
theorem sg_lc61 {ψ : Int32 → St1 → Prop} {nc ar hv ch kt ov tc lv wt : Int32} {a1 a2 a3 a4 a5 a6 a7 a8 a9 a10 : Nat → Int32} {n : Nat} {x : Int32} (hn : n < 24)
    (h1 : ¬ x = a7 n → ψ 1 (nc, ar, hv, ch ||| ((1 : Int32) <<< (nI n &&& 31)), kt, ov, tc, lv, wt, a1, a2, a3, a4, a5, a6, a7, upd a8 n x, a9, a10)) (h0 : x = a7 n → ψ 0 (nc, ar, hv, ch, kt, ov, tc, lv, wt, a1, a2, a3, a4, a5, a6, a7, a8, a9, a10)) : wX_lookAtCell_61 ψ (nI n) x nc ar hv ch kt ov tc lv wt a1 a2 a3 a4 a5 a6 a7 a8 a9 a10 := by
  unfold wX_lookAtCell_61
  rw [sg_cl hn]
  exact ⟨sg_vp hn, br_c h0 (fun z => ⟨sg_vp hn, nm_e (nm_e (h1 z))⟩)⟩
theorem sg_lcHold {ψ : Int32 → St1 → Prop} {nc ar hv ch kt ov tc lv wt : Int32} {a1 a2 a3 a4 a5 a6 a7 a8 a9 a10 : Nat → Int32} {n x : Nat} (hn : n < 24) (hx : x < 24) (hk : a1 n = 4) (hX : a2 n = nI x)
    (h1 : ¬ (if sg_bt hv x = true then a7 x else a7 n) = a7 n → ψ 1 (nc, ar, hv, ch ||| ((1 : Int32) <<< (nI n &&& 31)), kt, ov, tc, lv, wt, a1, a2, a3, a4, a5, a6, a7, upd a8 n (if sg_bt hv x = true then a7 x else a7 n), a9, a10)) (h0 : (if sg_bt hv x = true then a7 x else a7 n) = a7 n → ψ 0 (nc, ar, hv, ch, kt, ov, tc, lv, wt, a1, a2, a3, a4, a5, a6, a7, a8, a9, a10)) : wpX_lookAtCell ψ (nc, ar, hv, ch, kt, ov, tc, lv, wt, a1, a2, a3, a4, a5, a6, a7, a8, a9, a10) (nI n) := by
  have e := sg_cl hn
  have hk' : a1 (nI n).toNatClampNeg = 4 := by rw [e]; exact hk
  refine And.intro (sg_vp hn) (nm_e ⟨sg_vp hn, br_t hk' ⟨sg_vp hn, ?_⟩⟩)
  rw [e, hX, sg_cl hx]
  refine br_f (nI_pos (by omega)) ⟨sg_vp hn, sg_has hx (fun p => br_f (by decide) ⟨sg_vp hn, sg_vp hx, nm_e ?_⟩) (fun p => br_t rfl ?_)⟩
  · rw [p] at h1 h0
    exact sg_lc61 hn h1 h0
  · rw [p] at h1 h0
    exact sg_lc61 hn h1 h0
def sg_cv (ch : Int32) (a7 a8 : Nat → Int32) (p : Nat) : Int32 := if sg_bt ch p = true then a8 p else a7 p
theorem sg_cvA {ψ : Int32 → Prop} {nc ar hv ch kt ov tc lv wt : Int32} {a1 a2 a3 a4 a5 a6 a7 a8 a9 a10 : Nat → Int32} {p : Nat} (hp : p < 24) (h : ψ (sg_cv ch a7 a8 p)) : wpX_cellValue ψ (nc, ar, hv, ch, kt, ov, tc, lv, wt, a1, a2, a3, a4, a5, a6, a7, a8, a9, a10) (nI p) 1 := by
  have e := sg_cl hp
  refine br_f (by decide) (sg_brT (by omega) (fun z => ⟨sg_vp hp, ?_⟩) (fun z => ⟨sg_vp hp, ?_⟩))
  · rw [e]
    rw [sg_cv, z] at h
    exact h
  · rw [e]
    rw [sg_cv, z] at h
    exact h
theorem sg_cvB {ψ : Int32 → Prop} {nc ar hv ch kt ov tc lv wt : Int32} {a1 a2 a3 a4 a5 a6 a7 a8 a9 a10 : Nat → Int32} {p : Nat} (hp : p < 24) (h : ψ (a7 p)) : wpX_cellValue ψ (nc, ar, hv, ch, kt, ov, tc, lv, wt, a1, a2, a3, a4, a5, a6, a7, a8, a9, a10) (nI p) 0 := by
  have e := sg_cl hp
  refine br_t rfl ⟨sg_vp hp, ?_⟩
  rw [e]
  exact h
theorem sg_cbTimes {ψ : Int32 → Prop} {nc ar hv ch kt ov tc lv wt : Int32} {a1 a2 a3 a4 a5 a6 a7 a8 a9 a10 : Nat → Int32} {q : Int32} (c : Nat → Int32) {n x : Nat} (hc : ∀ (φ : Int32 → Prop) (p : Nat), p < 24 → φ (c p) → wpX_cellValue φ (nc, ar, hv, ch, kt, ov, tc, lv, wt, a1, a2, a3, a4, a5, a6, a7, a8, a9, a10) (nI p) q) (hn : n < 24) (hx : x < 24) (hk : a1 n = 14) (hX : a2 n = nI x)
    (h : ψ (c x * a3 n + a4 n)) : wpX_combined ψ (nc, ar, hv, ch, kt, ov, tc, lv, wt, a1, a2, a3, a4, a5, a6, a7, a8, a9, a10) (nI n) q := by
  have e := sg_cl hn
  have hk' : a1 (nI n).toNatClampNeg = 14 := by rw [e]; exact hk
  refine And.intro (sg_vp hn) (nm_r hk' ⟨sg_vp hn, ?_⟩)
  rw [e, hX]
  exact hc _ x hx (br_t rfl ⟨sg_vp hn, sg_vp hn, h⟩)
theorem sg_cbSelect {ψ : Int32 → Prop} {nc ar hv ch kt ov tc lv wt : Int32} {a1 a2 a3 a4 a5 a6 a7 a8 a9 a10 : Nat → Int32} {q : Int32} (c : Nat → Int32) {n x y z : Nat} (hc : ∀ (φ : Int32 → Prop) (p : Nat), p < 24 → φ (c p) → wpX_cellValue φ (nc, ar, hv, ch, kt, ov, tc, lv, wt, a1, a2, a3, a4, a5, a6, a7, a8, a9, a10) (nI p) q) (hn : n < 24) (hx : x < 24) (hy : y < 24) (hz : z < 24) (hk : a1 n = 13) (hX : a2 n = nI x) (hY : a3 n = nI y) (hZ : a4 n = nI z)
    (h : ψ (if c x = 0 then c z else c y)) : wpX_combined ψ (nc, ar, hv, ch, kt, ov, tc, lv, wt, a1, a2, a3, a4, a5, a6, a7, a8, a9, a10) (nI n) q := by
  have e := sg_cl hn
  have hk' : a1 (nI n).toNatClampNeg = 13 := by rw [e]; exact hk
  refine And.intro (sg_vp hn) (nm_r hk' ⟨sg_vp hn, ?_⟩)
  rw [e, hX, hY, hZ]
  refine hc _ x hx (br_f (by decide) (br_f (by decide) (br_c (fun p => ⟨sg_vp hn, ?_⟩) (fun p => ⟨sg_vp hn, ?_⟩))))
  · rw [if_pos p] at h
    exact hc _ z hz h
  · rw [if_neg p] at h
    exact hc _ y hy h
theorem sg_lcComb {ψ : Int32 → St1 → Prop} {nc ar hv ch kt ov tc lv wt : Int32} {a1 a2 a3 a4 a5 a6 a7 a8 a9 a10 : Nat → Int32} {n : Nat} (hn : n < 24) (hk : ¬ a1 n = 4) {r : Int32} (hc : ∀ φ : Int32 → Prop, φ r → wpX_combined φ (nc, ar, hv, ch, kt, ov, tc, lv, wt, a1, a2, a3, a4, a5, a6, a7, a8, a9, a10) (nI n) 1)
    (h1 : ¬ r = a7 n → ψ 1 (nc, ar, hv, ch ||| ((1 : Int32) <<< (nI n &&& 31)), kt, ov, tc, lv, wt, a1, a2, a3, a4, a5, a6, a7, upd a8 n r, a9, a10)) (h0 : r = a7 n → ψ 0 (nc, ar, hv, ch, kt, ov, tc, lv, wt, a1, a2, a3, a4, a5, a6, a7, a8, a9, a10)) : wpX_lookAtCell ψ (nc, ar, hv, ch, kt, ov, tc, lv, wt, a1, a2, a3, a4, a5, a6, a7, a8, a9, a10) (nI n) := by
  have e := sg_cl hn
  have hk' : ¬ a1 (nI n).toNatClampNeg = 4 := by rw [e]; exact hk
  exact And.intro (sg_vp hn) (nm_e ⟨sg_vp hn, br_f hk' (hc _ (sg_lc61 hn h1 h0))⟩)
/-! look -/
theorem sg_l40t {post : St1 → Prop} {nc ar hv ch kt ov tc lv wt : Int32} {a1 a2 a3 a4 a5 a6 a7 a8 a9 a10 : Nat → Int32} {n : Nat} (hn : n < 24) (h : post (nc, ar, hv, ch, kt, ov, tc, lv, wt ||| a6 n, a1, a2, a3, a4, a5, a6, a7, a8, a9, a10)) : wX_look_40 post (nI n) 1 nc ar hv ch kt ov tc lv wt a1 a2 a3 a4 a5 a6 a7 a8 a9 a10 := by
  unfold wX_look_40
  rw [sg_cl hn]
  exact br_f (by decide) ⟨sg_vp hn, nm_e h⟩
theorem sg_l40f {post : St1 → Prop} {nc ar hv ch kt ov tc lv wt : Int32} {a1 a2 a3 a4 a5 a6 a7 a8 a9 a10 : Nat → Int32} {n : Nat} (h : post (nc, ar, hv, ch, kt, ov, tc, lv, wt, a1, a2, a3, a4, a5, a6, a7, a8, a9, a10)) : wX_look_40 post (nI n) 0 nc ar hv ch kt ov tc lv wt a1 a2 a3 a4 a5 a6 a7 a8 a9 a10 := br_t rfl h
theorem sg_lookE {post : St1 → Prop} {nc ar hv ch kt ov tc lv wt : Int32} {a1 a2 a3 a4 a5 a6 a7 a8 a9 a10 : Nat → Int32} {n : Nat} (hn : n < 24) (hk : sg_isC (a1 n) = false) {t : Prop} {x : Int32}
    (hE : ∀ (ψ : Int32 → St1 → Prop) (w : Int32), (t → ψ 1 (nc, ar, hv ||| ((1 : Int32) <<< (nI n &&& 31)), ch, kt, ov, tc, lv, w, a1, a2, a3, a4, a5, a6, upd a7 n x, a8, a9, a10)) → (¬ t → ψ 0 (nc, ar, hv, ch, kt, ov, tc, lv, w, a1, a2, a3, a4, a5, a6, a7, a8, a9, a10)) → wpX_lookAtEvent ψ (nc, ar, hv, ch, kt, ov, tc, lv, w, a1, a2, a3, a4, a5, a6, a7, a8, a9, a10) (nI n))
    (h1 : t → post (nc, ar, hv ||| ((1 : Int32) <<< (nI n &&& 31)), ch, kt, ov, tc, lv, (wt &&& (((1 : Int32) <<< (nI n &&& 31)) ^^^ (-1))) ||| a6 n, a1, a2, a3, a4, a5, a6, upd a7 n x, a8, a9, a10))
    (h0 : ¬ t → post (nc, ar, hv, ch, kt, ov, tc, lv, wt &&& (((1 : Int32) <<< (nI n &&& 31)) ^^^ (-1)), a1, a2, a3, a4, a5, a6, a7, a8, a9, a10)) : wpX_look post (nc, ar, hv, ch, kt, ov, tc, lv, wt, a1, a2, a3, a4, a5, a6, a7, a8, a9, a10) (nI n) := by
  have hk' : sg_isC (a1 (nI n).toNatClampNeg) = false := by rw [sg_cl hn]; exact hk
  exact nm_e ⟨sg_vp hn, sg_ck (fun z => absurd (hk'.symm.trans z) (by decide)) (fun _ => br_t rfl (hE _ _ (fun z => sg_l40t hn (h1 z)) (fun z => sg_l40f (h0 z))))⟩
theorem sg_lookC {post : St1 → Prop} {nc ar hv ch kt ov tc lv wt : Int32} {a1 a2 a3 a4 a5 a6 a7 a8 a9 a10 : Nat → Int32} {n : Nat} (hn : n < 24) (hk : sg_isC (a1 n) = true) {t : Prop} {x : Int32}
    (hE : ∀ (ψ : Int32 → St1 → Prop) (w : Int32), (t → ψ 1 (nc, ar, hv, ch ||| ((1 : Int32) <<< (nI n &&& 31)), kt, ov, tc, lv, w, a1, a2, a3, a4, a5, a6, a7, upd a8 n x, a9, a10)) → (¬ t → ψ 0 (nc, ar, hv, ch, kt, ov, tc, lv, w, a1, a2, a3, a4, a5, a6, a7, a8, a9, a10)) → wpX_lookAtCell ψ (nc, ar, hv, ch, kt, ov, tc, lv, w, a1, a2, a3, a4, a5, a6, a7, a8, a9, a10) (nI n))
    (h1 : t → post (nc, ar, hv, ch ||| ((1 : Int32) <<< (nI n &&& 31)), kt, ov, tc, lv, (wt &&& (((1 : Int32) <<< (nI n &&& 31)) ^^^ (-1))) ||| a6 n, a1, a2, a3, a4, a5, a6, a7, upd a8 n x, a9, a10))
    (h0 : ¬ t → post (nc, ar, hv, ch, kt, ov, tc, lv, wt &&& (((1 : Int32) <<< (nI n &&& 31)) ^^^ (-1)), a1, a2, a3, a4, a5, a6, a7, a8, a9, a10)) : wpX_look post (nc, ar, hv, ch, kt, ov, tc, lv, wt, a1, a2, a3, a4, a5, a6, a7, a8, a9, a10) (nI n) := by
  have hk' : sg_isC (a1 (nI n).toNatClampNeg) = true := by rw [sg_cl hn]; exact hk
  exact nm_e ⟨sg_vp hn, sg_ck (fun _ => br_f (by decide) (hE _ _ (fun z => sg_l40t hn (h1 z)) (fun z => sg_l40f (h0 z)))) (fun z => absurd (hk'.symm.trans z) (by decide))⟩
end
section
/-! the graph that the law makes: tables -/
def sg_kT (n : Nat) : Int32 := match n with
  | 2 => 4 | 3 => 5 | 4 => 3 | 5 => 9 | 6 => 11 | 7 => 8 | 8 => 2 | 9 => 4 | 10 => 14 | 11 => 7 | 12 => 12 | 13 => 10 | 14 => 13 | _ => 0
def sg_xN (n : Nat) : Nat := match n with
  | 2 => 4 | 4 => 1 | 5 => 2 | 6 => 5 | 8 => 5 | 9 => 8 | 10 => 2 | 11 => 1 | 12 => 11 | 13 => 9 | 14 => 9 | _ => 0
def sg_hN (n : Nat) : Nat := match n with
  | 2 => 3 | 3 => 1 | 4 => 2 | 5 => 4 | 7 => 1 | 8 => 5 | 9 => 6 | 10 => 4 | 11 => 1 | 12 => 2 | 13 => 2 | 14 => 7 | _ => 0
def sg_uT (n : Nat) : Int32 := match n with
  | 0 => 8328 | 1 => 2064 | 2 => 17440 | 3 => 16 | 4 => 4 | 5 => 256 | 8 => 512 | 9 => 16384 | 10 => 16384 | 11 => 12288 | _ => 0
/-- the arrays that hold the graph -/
def sg_G (bz : Int32) (a1 a2 a3 a4 a5 a6 : Nat → Int32) : Prop :=
  (∀ m, m < 15 → a1 m = sg_kT m) ∧ (∀ m, m < 15 → a2 m = nI (sg_xN m)) ∧ (a3 3 = nI 2 ∧ a3 4 = nI 3 ∧ a3 8 = 10 ∧ a3 10 = bz ∧ a3 11 = nI 9 ∧ a3 13 = nI 11 ∧ a3 14 = nI 10) ∧ (a4 10 = 1 ∧ a4 13 = nI 0 ∧ a4 14 = nI 2) ∧ (∀ m, m < 15 → a5 m = nI (sg_hN m)) ∧ (∀ m, m < 15 → a6 m = sg_uT m)
def sg_Inv (H C : Nat → Bool) (V O : Nat → Int32) (ks : Nat → Bool) (a6 : Nat → Int32) (D : Nat → Prop) (hv ch wt : Int32) (a7 a8 : Nat → Int32) : Prop :=
  ∀ m, m < 15 →
    (D m → sg_bt hv m = H m ∧ sg_bt ch m = C m ∧ (H m = true → a7 m = V m) ∧ (C m = true → a8 m = V m)) ∧
    (¬ D m → sg_bt hv m = false ∧ sg_bt ch m = false ∧ (ks m = true → sg_bt wt m = true) ∧ (∀ p, p < 15 → D p → sg_bt (a6 p) m = true → (H p || C p) = true → sg_bt wt m = true)) ∧
    (sg_isC (sg_kT m) = true → a7 m = O m)
section
variable {H C : Nat → Bool} {V O : Nat → Int32} {ks : Nat → Bool} {a6 : Nat → Int32} {D : Nat → Prop} {hv ch wt : Int32} {a7 a8 : Nat → Int32}
theorem sg_Icong {D' : Nat → Prop} (e : ∀ m, m < 15 → (D m ↔ D' m)) (I : sg_Inv H C V O ks a6 D hv ch wt a7 a8) : sg_Inv H C V O ks a6 D' hv ch wt a7 a8 := by
  intro m hm
  obtain ⟨i1, i2, i3⟩ := I m hm
  refine ⟨fun d => i1 ((e m hm).mpr d), fun d => ?_, i3⟩
  obtain ⟨k1, k2, k3, k4⟩ := i2 (fun z => d ((e m hm).mp z))
  exact ⟨k1, k2, k3, fun p hp dp => k4 p hp ((e p hp).mpr dp)⟩
theorem sg_stepE {n : Nat} (hn : n < 15) (hD : ¬ D n) (hC : C n = false) (hk : sg_isC (sg_kT n) = false) (hH : H n = true) {x : Int32} (hx : x = V n) (I : sg_Inv H C V O ks a6 D hv ch wt a7 a8) :
    sg_Inv H C V O ks a6 (fun m => D m ∨ m = n) (hv ||| ((1 : Int32) <<< (nI n &&& 31))) ch ((wt &&& (((1 : Int32) <<< (nI n &&& 31)) ^^^ (-1))) ||| a6 n) (upd a7 n x) a8 := by
  intro m hm
  obtain ⟨i1, i2, i3⟩ := I m hm
  by_cases e : m = n
  · subst e
    obtain ⟨k1, k2, k3, k4⟩ := i2 hD
    refine ⟨fun _ => ⟨?_, ?_, ?_, ?_⟩, fun d => absurd (Or.inr rfl) d, fun z => absurd (hk.symm.trans z) (by decide)⟩
    · rw [sg_set hv (by omega) (by omega), hH]; simp
    · rw [k2, hC]
    · intro _; rw [pk_us, hx]
    · intro z; exact absurd (hC.symm.trans z) (by decide)
  · refine ⟨fun d => ?_, fun d => ?_, fun z => ?_⟩
    · obtain ⟨j1, j2, j3, j4⟩ := i1 (d.resolve_right e)
      refine ⟨?_, j2, fun z => ?_, j4⟩
      · rw [sg_set hv (by omega) (by omega), j1]; simp [e]
      · rw [pk_un e]; exact j3 z
    · obtain ⟨k1, k2, k3, k4⟩ := i2 (fun z => d (Or.inl z))
      refine ⟨?_, k2, fun z => ?_, fun p hp dp hb ht => ?_⟩
      · rw [sg_set hv (by omega) (by omega), k1]; simp [e]
      · rw [sg_bor, sg_clr wt (by omega) (by omega), k3 z]; simp [e]
      · rw [sg_bor, sg_clr wt (by omega) (by omega)]
        rcases dp with dp | dp
        · rw [k4 p hp dp hb ht]; simp [e]
        · subst dp; rw [hb]; simp
    · rw [pk_un e]; exact i3 z
theorem sg_stepC {n : Nat} (hn : n < 15) (hD : ¬ D n) (hC : C n = true) (hH : H n = false) {x : Int32} (hx : x = V n) (I : sg_Inv H C V O ks a6 D hv ch wt a7 a8) :
    sg_Inv H C V O ks a6 (fun m => D m ∨ m = n) hv (ch ||| ((1 : Int32) <<< (nI n &&& 31))) ((wt &&& (((1 : Int32) <<< (nI n &&& 31)) ^^^ (-1))) ||| a6 n) a7 (upd a8 n x) := by
  intro m hm
  obtain ⟨i1, i2, i3⟩ := I m hm
  by_cases e : m = n
  · subst e
    obtain ⟨k1, k2, k3, k4⟩ := i2 hD
    refine ⟨fun _ => ⟨?_, ?_, ?_, ?_⟩, fun d => absurd (Or.inr rfl) d, i3⟩
    · rw [k1, hH]
    · rw [sg_set ch (by omega) (by omega), hC]; simp
    · intro z; exact absurd (hH.symm.trans z) (by decide)
    · intro _; rw [pk_us, hx]
  · refine ⟨fun d => ?_, fun d => ?_, i3⟩
    · obtain ⟨j1, j2, j3, j4⟩ := i1 (d.resolve_right e)
      refine ⟨j1, ?_, j3, fun z => ?_⟩
      · rw [sg_set ch (by omega) (by omega), j2]; simp [e]
      · rw [pk_un e]; exact j4 z
    · obtain ⟨k1, k2, k3, k4⟩ := i2 (fun z => d (Or.inl z))
      refine ⟨k1, ?_, fun z => ?_, fun p hp dp hb ht => ?_⟩
      · rw [sg_set ch (by omega) (by omega), k2]; simp [e]
      · rw [sg_bor, sg_clr wt (by omega) (by omega), k3 z]; simp [e]
      · rw [sg_bor, sg_clr wt (by omega) (by omega)]
        rcases dp with dp | dp
        · rw [k4 p hp dp hb ht]; simp [e]
        · subst dp; rw [hb]; simp
theorem sg_step0 {n : Nat} (hn : n < 15) (hD : ¬ D n) (hC : C n = false) (hH : H n = false) (I : sg_Inv H C V O ks a6 D hv ch wt a7 a8) {wt' : Int32} (hw : ∀ m, m < 15 → m ≠ n → sg_bt wt m = true → sg_bt wt' m = true) :
    sg_Inv H C V O ks a6 (fun m => D m ∨ m = n) hv ch wt' a7 a8 := by
  intro m hm
  obtain ⟨i1, i2, i3⟩ := I m hm
  by_cases e : m = n
  · subst e
    obtain ⟨k1, k2, k3, k4⟩ := i2 hD
    refine ⟨fun _ => ⟨?_, ?_, ?_, ?_⟩, fun d => absurd (Or.inr rfl) d, i3⟩
    · rw [k1, hH]
    · rw [k2, hC]
    · intro z; exact absurd (hH.symm.trans z) (by decide)
    · intro z; exact absurd (hC.symm.trans z) (by decide)
  · refine ⟨fun d => i1 (d.resolve_right e), fun d => ?_, i3⟩
    obtain ⟨k1, k2, k3, k4⟩ := i2 (fun z => d (Or.inl z))
    refine ⟨k1, k2, fun z => hw m hm e (k3 z), fun p hp dp hb ht => ?_⟩
    rcases dp with dp | dp
    · exact hw m hm e (k4 p hp dp hb ht)
    · subst dp
      rw [hH, hC] at ht
      exact absurd ht (by decide)
theorem sg_wclr {n : Nat} (hn : n < 15) : ∀ m, m < 15 → m ≠ n → sg_bt wt m = true → sg_bt (wt &&& (((1 : Int32) <<< (nI n &&& 31)) ^^^ (-1))) m = true := by
  intro m hm e h
  rw [sg_clr wt (by omega) (by omega), h]
  simp [e]
/-- a step at an event -/
theorem sg_doE {post : St1 → Prop} {nc ar kt ov tc lv : Int32} {a1 a2 a3 a4 a5 a9 a10 : Nat → Int32} {n : Nat} (hn : n < 15) (g1 : ∀ m, m < 15 → a1 m = sg_kT m) (hk : sg_isC (sg_kT n) = false) {t : Prop} {x : Int32}
    (hE : ∀ (ψ : Int32 → St1 → Prop) (w : Int32), (t → ψ 1 (nc, ar, hv ||| ((1 : Int32) <<< (nI n &&& 31)), ch, kt, ov, tc, lv, w, a1, a2, a3, a4, a5, a6, upd a7 n x, a8, a9, a10)) → (¬ t → ψ 0 (nc, ar, hv, ch, kt, ov, tc, lv, w, a1, a2, a3, a4, a5, a6, a7, a8, a9, a10)) → wpX_lookAtEvent ψ (nc, ar, hv, ch, kt, ov, tc, lv, w, a1, a2, a3, a4, a5, a6, a7, a8, a9, a10) (nI n))
    (hD : ¬ D n) (I : sg_Inv H C V O ks a6 D hv ch wt a7 a8) (hC : C n = false) (hH : t ↔ H n = true) (hV : t → x = V n)
    (h : ∀ hv ch wt a7 a8, sg_Inv H C V O ks a6 (fun m => D m ∨ m = n) hv ch wt a7 a8 → post (nc, ar, hv, ch, kt, ov, tc, lv, wt, a1, a2, a3, a4, a5, a6, a7, a8, a9, a10)) : wpX_look post (nc, ar, hv, ch, kt, ov, tc, lv, wt, a1, a2, a3, a4, a5, a6, a7, a8, a9, a10) (nI n) :=
  sg_lookE (by omega) (by rw [g1 n hn]; exact hk) hE (fun z => h _ _ _ _ _ (sg_stepE hn hD hC hk (hH.mp z) (hV z) I)) (fun z => h _ _ _ _ _ (sg_step0 hn hD hC (sg_nt (fun y => z (hH.mpr y))) I (sg_wclr hn)))
/-- a step at a cell -/
theorem sg_doC {post : St1 → Prop} {nc ar kt ov tc lv : Int32} {a1 a2 a3 a4 a5 a9 a10 : Nat → Int32} {n : Nat} (hn : n < 15) (g1 : ∀ m, m < 15 → a1 m = sg_kT m) (hk : sg_isC (sg_kT n) = true) {t : Prop} {x : Int32}
    (hE : ∀ (ψ : Int32 → St1 → Prop) (w : Int32), (t → ψ 1 (nc, ar, hv, ch ||| ((1 : Int32) <<< (nI n &&& 31)), kt, ov, tc, lv, w, a1, a2, a3, a4, a5, a6, a7, upd a8 n x, a9, a10)) → (¬ t → ψ 0 (nc, ar, hv, ch, kt, ov, tc, lv, w, a1, a2, a3, a4, a5, a6, a7, a8, a9, a10)) → wpX_lookAtCell ψ (nc, ar, hv, ch, kt, ov, tc, lv, w, a1, a2, a3, a4, a5, a6, a7, a8, a9, a10) (nI n))
    (hD : ¬ D n) (I : sg_Inv H C V O ks a6 D hv ch wt a7 a8) (hH : H n = false) (hC : t ↔ C n = true) (hV : t → x = V n)
    (h : ∀ hv ch wt a7 a8, sg_Inv H C V O ks a6 (fun m => D m ∨ m = n) hv ch wt a7 a8 → post (nc, ar, hv, ch, kt, ov, tc, lv, wt, a1, a2, a3, a4, a5, a6, a7, a8, a9, a10)) : wpX_look post (nc, ar, hv, ch, kt, ov, tc, lv, wt, a1, a2, a3, a4, a5, a6, a7, a8, a9, a10) (nI n) :=
  sg_lookC (by omega) (by rw [g1 n hn]; exact hk) hE (fun z => h _ _ _ _ _ (sg_stepC hn hD (hC.mp z) hH (hV z) I)) (fun z => h _ _ _ _ _ (sg_step0 hn hD (sg_nt (fun y => z (hC.mpr y))) hH I (sg_wclr hn)))
end
end
section
def sg_w (C : Nat → Bool) (V O : Nat → Int32) (m : Nat) : Int32 := if C m = true then V m else O m
/-- what a transaction does at each node -/
def sg_Spec (H C : Nat → Bool) (V O : Nat → Int32) (bz kt ov : Int32) (a9 : Nat → Int32) : Prop :=
  (H 0 = sg_bt kt 0 ∧ (H 0 = true → V 0 = a9 0) ∧ C 0 = false) ∧
  (H 1 = sg_bt kt 1 ∧ (H 1 = true → V 1 = a9 1) ∧ C 1 = false) ∧
  (H 2 = false ∧ V 2 = (if H 4 = true then V 4 else O 2) ∧ C 2 = !decide (V 2 = O 2)) ∧
  (H 3 = H 0 ∧ (H 0 = true → V 3 = V 0 + O 2) ∧ C 3 = false) ∧
  (H 4 = (H 1 || H 3) ∧ (H 4 = true → V 4 = sg_mv (H 1) (H 3) (V 1) (V 3)) ∧ C 4 = false) ∧
  (H 5 = C 2 ∧ (C 2 = true → V 5 = V 2) ∧ C 5 = false) ∧
  (H 6 = sg_bt kt 6 ∧ (H 6 = true → V 6 = a9 6) ∧ C 6 = false) ∧
  (H 7 = H 0 ∧ (H 0 = true → V 7 = a9 7 + V 0) ∧ C 7 = false) ∧
  (H 8 = (H 5 && !decide (V 5 < 10)) ∧ (H 5 = true → V 8 = V 5) ∧ C 8 = false) ∧
  (H 9 = false ∧ V 9 = (if H 8 = true then V 8 else O 9) ∧ C 9 = !decide (V 9 = O 9)) ∧
  (H 10 = false ∧ V 10 = sg_w C V O 2 * bz + 1 ∧ C 10 = !decide (V 10 = O 10)) ∧
  (H 11 = (H 1 && !decide (O 9 = 0)) ∧ (H 1 = true → V 11 = V 1) ∧ C 11 = false) ∧
  (H 12 = (H 11 && !sg_bt ov 12) ∧ (H 11 = true → V 12 = V 11) ∧ C 12 = false) ∧
  (H 13 = H (if O 9 = 0 then 0 else 11) ∧ (H 13 = true → V 13 = V (if O 9 = 0 then 0 else 11)) ∧ C 13 = false) ∧
  (H 14 = false ∧ V 14 = (if sg_w C V O 9 = 0 then sg_w C V O 2 else sg_w C V O 10) ∧ C 14 = !decide (V 14 = O 14)) ∧
  (O 10 = O 2 * bz + 1 ∧ O 14 = (if O 9 = 0 then O 2 else O 10))
def sg_ks (kt : Int32) (m : Nat) : Bool := sg_bt kt m && (decide (m = 0) || decide (m = 1) || decide (m = 6))
section
variable {H C : Nat → Bool} {V O : Nat → Int32} {ks : Nat → Bool} {D : Nat → Prop} {bz : Int32} {post : St1 → Prop} {nc ar hv ch kt ov tc lv wt : Int32} {a1 a2 a3 a4 a5 a6 a7 a8 a9 a10 : Nat → Int32}
theorem sg_bnot {P : Prop} [Decidable P] : ¬ P ↔ (!decide P) = true := by simp
theorem sg_n0 (G : sg_G bz a1 a2 a3 a4 a5 a6) (S : sg_Spec H C V O bz kt ov a9) (hD : ¬ D 0) (I : sg_Inv H C V O ks a6 D hv ch wt a7 a8)
    (h : ∀ hv ch wt a7 a8, sg_Inv H C V O ks a6 (fun m => D m ∨ m = 0) hv ch wt a7 a8 → post (nc, ar, hv, ch, kt, ov, tc, lv, wt, a1, a2, a3, a4, a5, a6, a7, a8, a9, a10)) : wpX_look post (nc, ar, hv, ch, kt, ov, tc, lv, wt, a1, a2, a3, a4, a5, a6, a7, a8, a9, a10) (nI 0) := by
  obtain ⟨g1, -⟩ := G
  obtain ⟨⟨s1, s2, s3⟩, -⟩ := S
  exact sg_doE (by omega) g1 rfl (fun ψ w h1 h0 => sg_leSrc (by omega) (Or.inl (g1 0 (by omega))) h1 h0) hD I s3 (by rw [s1]) (fun z => (s2 (s1.trans z)).symm) h
theorem sg_n1 (G : sg_G bz a1 a2 a3 a4 a5 a6) (S : sg_Spec H C V O bz kt ov a9) (hD : ¬ D 1) (I : sg_Inv H C V O ks a6 D hv ch wt a7 a8)
    (h : ∀ hv ch wt a7 a8, sg_Inv H C V O ks a6 (fun m => D m ∨ m = 1) hv ch wt a7 a8 → post (nc, ar, hv, ch, kt, ov, tc, lv, wt, a1, a2, a3, a4, a5, a6, a7, a8, a9, a10)) : wpX_look post (nc, ar, hv, ch, kt, ov, tc, lv, wt, a1, a2, a3, a4, a5, a6, a7, a8, a9, a10) (nI 1) := by
  obtain ⟨g1, -⟩ := G
  obtain ⟨-, ⟨s1, s2, s3⟩, -⟩ := S
  exact sg_doE (by omega) g1 rfl (fun ψ w h1 h0 => sg_leSrc (by omega) (Or.inl (g1 1 (by omega))) h1 h0) hD I s3 (by rw [s1]) (fun z => (s2 (s1.trans z)).symm) h
theorem sg_n6 (G : sg_G bz a1 a2 a3 a4 a5 a6) (S : sg_Spec H C V O bz kt ov a9) (hD : ¬ D 6) (I : sg_Inv H C V O ks a6 D hv ch wt a7 a8)
    (h : ∀ hv ch wt a7 a8, sg_Inv H C V O ks a6 (fun m => D m ∨ m = 6) hv ch wt a7 a8 → post (nc, ar, hv, ch, kt, ov, tc, lv, wt, a1, a2, a3, a4, a5, a6, a7, a8, a9, a10)) : wpX_look post (nc, ar, hv, ch, kt, ov, tc, lv, wt, a1, a2, a3, a4, a5, a6, a7, a8, a9, a10) (nI 6) := by
  obtain ⟨g1, -⟩ := G
  obtain ⟨-, -, -, -, -, -, ⟨s1, s2, s3⟩, -⟩ := S
  exact sg_doE (by omega) g1 rfl (fun ψ w h1 h0 => sg_leSrc (by omega) (Or.inr (g1 6 (by omega))) h1 h0) hD I s3 (by rw [s1]) (fun z => (s2 (s1.trans z)).symm) h
theorem sg_n3 (G : sg_G bz a1 a2 a3 a4 a5 a6) (S : sg_Spec H C V O bz kt ov a9) (hD : ¬ D 3) (d0 : D 0) (I : sg_Inv H C V O ks a6 D hv ch wt a7 a8)
    (h : ∀ hv ch wt a7 a8, sg_Inv H C V O ks a6 (fun m => D m ∨ m = 3) hv ch wt a7 a8 → post (nc, ar, hv, ch, kt, ov, tc, lv, wt, a1, a2, a3, a4, a5, a6, a7, a8, a9, a10)) : wpX_look post (nc, ar, hv, ch, kt, ov, tc, lv, wt, a1, a2, a3, a4, a5, a6, a7, a8, a9, a10) (nI 3) := by
  obtain ⟨g1, g2, ⟨y3, -⟩, -⟩ := G
  obtain ⟨-, -, -, ⟨s1, s2, s3⟩, -⟩ := S
  obtain ⟨p1, p2, p3, p4⟩ := (I 0 (by omega)).1 d0
  have o2 := (I 2 (by omega)).2.2 rfl
  exact sg_doE (by omega) g1 rfl (fun ψ w h1 h0 => sg_leSnap (x := 0) (y := 2) (by omega) (by omega) (by omega) (g1 3 (by omega)) (g2 3 (by omega)) y3 h1 h0) hD I s3 (by rw [s1, p1]) (fun z => by rw [p1] at z; rw [s2 z, p3 z, o2]) h
theorem sg_n7 (G : sg_G bz a1 a2 a3 a4 a5 a6) (S : sg_Spec H C V O bz kt ov a9) (hD : ¬ D 7) (d0 : D 0) (I : sg_Inv H C V O ks a6 D hv ch wt a7 a8)
    (h : ∀ hv ch wt a7 a8, sg_Inv H C V O ks a6 (fun m => D m ∨ m = 7) hv ch wt a7 a8 → post (nc, ar, hv, ch, kt, ov, tc, lv, wt, a1, a2, a3, a4, a5, a6, a7, a8, a9, a10)) : wpX_look post (nc, ar, hv, ch, kt, ov, tc, lv, wt, a1, a2, a3, a4, a5, a6, a7, a8, a9, a10) (nI 7) := by
  obtain ⟨g1, g2, -⟩ := G
  obtain ⟨-, -, -, -, -, -, -, ⟨s1, s2, s3⟩, -⟩ := S
  obtain ⟨p1, p2, p3, p4⟩ := (I 0 (by omega)).1 d0
  exact sg_doE (by omega) g1 rfl (fun ψ w h1 h0 => sg_leCount (x := 0) (by omega) (by omega) (g1 7 (by omega)) (g2 7 (by omega)) h1 h0) hD I s3 (by rw [s1, p1]) (fun z => by rw [p1] at z; rw [s2 z, p3 z]) h
theorem sg_n11 (G : sg_G bz a1 a2 a3 a4 a5 a6) (S : sg_Spec H C V O bz kt ov a9) (hD : ¬ D 11) (d1 : D 1) (I : sg_Inv H C V O ks a6 D hv ch wt a7 a8)
    (h : ∀ hv ch wt a7 a8, sg_Inv H C V O ks a6 (fun m => D m ∨ m = 11) hv ch wt a7 a8 → post (nc, ar, hv, ch, kt, ov, tc, lv, wt, a1, a2, a3, a4, a5, a6, a7, a8, a9, a10)) : wpX_look post (nc, ar, hv, ch, kt, ov, tc, lv, wt, a1, a2, a3, a4, a5, a6, a7, a8, a9, a10) (nI 11) := by
  obtain ⟨g1, g2, ⟨-, -, -, -, y11, -⟩, -⟩ := G
  obtain ⟨-, -, -, -, -, -, -, -, -, -, -, ⟨s1, s2, s3⟩, -⟩ := S
  obtain ⟨p1, p2, p3, p4⟩ := (I 1 (by omega)).1 d1
  have o9 := (I 9 (by omega)).2.2 rfl
  refine sg_doE (by omega) g1 rfl (fun ψ w h1 h0 => sg_leGate (x := 1) (y := 9) (by omega) (by omega) (by omega) (g1 11 (by omega)) (g2 11 (by omega)) y11 h1 h0) hD I s3 (by rw [s1, p1, o9]) (fun z => ?_) h
  rw [p1, Bool.and_eq_true] at z
  rw [s2 z.1, p3 z.1]
theorem sg_n4 (G : sg_G bz a1 a2 a3 a4 a5 a6) (S : sg_Spec H C V O bz kt ov a9) (hD : ¬ D 4) (d1 : D 1) (d3 : D 3) (I : sg_Inv H C V O ks a6 D hv ch wt a7 a8)
    (h : ∀ hv ch wt a7 a8, sg_Inv H C V O ks a6 (fun m => D m ∨ m = 4) hv ch wt a7 a8 → post (nc, ar, hv, ch, kt, ov, tc, lv, wt, a1, a2, a3, a4, a5, a6, a7, a8, a9, a10)) : wpX_look post (nc, ar, hv, ch, kt, ov, tc, lv, wt, a1, a2, a3, a4, a5, a6, a7, a8, a9, a10) (nI 4) := by
  obtain ⟨g1, g2, ⟨-, y4, -⟩, -⟩ := G
  obtain ⟨-, -, -, -, ⟨s1, s2, s3⟩, -⟩ := S
  obtain ⟨p1, p2, p3, p4⟩ := (I 1 (by omega)).1 d1
  obtain ⟨q1, q2, q3, q4⟩ := (I 3 (by omega)).1 d3
  refine sg_doE (by omega) g1 rfl (fun ψ w h1 h0 => sg_leMerge (x := 1) (y := 3) (by omega) (by omega) (by omega) (g1 4 (by omega)) (g2 4 (by omega)) y4 h1 h0) hD I s3 (by rw [s1, p1, q1]) (fun z => ?_) h
  rw [p1, q1] at z
  rw [s2 (s1.trans z), p1, q1]
  unfold sg_mv
  cases hp : H 1 <;> cases hq : H 3
  · rw [hp, hq] at z; exact absurd z (by decide)
  · simp [q3 hq]
  · simp [p3 hp]
  · simp [q3 hq, p3 hp]
theorem sg_n12 (G : sg_G bz a1 a2 a3 a4 a5 a6) (S : sg_Spec H C V O bz kt ov a9) (hD : ¬ D 12) (d1 : D 11) (I : sg_Inv H C V O ks a6 D hv ch wt a7 a8)
    (h : ∀ hv ch wt a7 a8, sg_Inv H C V O ks a6 (fun m => D m ∨ m = 12) hv ch wt a7 a8 → post (nc, ar, hv, ch, kt, ov, tc, lv, wt, a1, a2, a3, a4, a5, a6, a7, a8, a9, a10)) : wpX_look post (nc, ar, hv, ch, kt, ov, tc, lv, wt, a1, a2, a3, a4, a5, a6, a7, a8, a9, a10) (nI 12) := by
  obtain ⟨g1, g2, -⟩ := G
  obtain ⟨-, -, -, -, -, -, -, -, -, -, -, -, ⟨s1, s2, s3⟩, -⟩ := S
  obtain ⟨p1, p2, p3, p4⟩ := (I 11 (by omega)).1 d1
  refine sg_doE (by omega) g1 rfl (fun ψ w h1 h0 => sg_leOnce (x := 11) (by omega) (by omega) (g1 12 (by omega)) (g2 12 (by omega)) h1 h0) hD I s3 (by rw [s1, p1]) (fun z => ?_) h
  rw [p1, Bool.and_eq_true] at z
  rw [s2 z.1, p3 z.1]
theorem sg_n13 (G : sg_G bz a1 a2 a3 a4 a5 a6) (S : sg_Spec H C V O bz kt ov a9) (hD : ¬ D 13) (d0 : D 0) (d1 : D 11) (I : sg_Inv H C V O ks a6 D hv ch wt a7 a8)
    (h : ∀ hv ch wt a7 a8, sg_Inv H C V O ks a6 (fun m => D m ∨ m = 13) hv ch wt a7 a8 → post (nc, ar, hv, ch, kt, ov, tc, lv, wt, a1, a2, a3, a4, a5, a6, a7, a8, a9, a10)) : wpX_look post (nc, ar, hv, ch, kt, ov, tc, lv, wt, a1, a2, a3, a4, a5, a6, a7, a8, a9, a10) (nI 13) := by
  obtain ⟨g1, g2, ⟨-, -, -, -, -, y13, -⟩, ⟨-, z13, -⟩, -⟩ := G
  obtain ⟨-, -, -, -, -, -, -, -, -, -, -, -, -, ⟨s1, s2, s3⟩, -⟩ := S
  have o9 := (I 9 (by omega)).2.2 rfl
  have hp : sg_bt hv (if O 9 = 0 then 0 else 11) = H (if O 9 = 0 then 0 else 11) ∧ (H (if O 9 = 0 then 0 else 11) = true → a7 (if O 9 = 0 then 0 else 11) = V (if O 9 = 0 then 0 else 11)) := by
    split
    · exact ⟨((I 0 (by omega)).1 d0).1, ((I 0 (by omega)).1 d0).2.2.1⟩
    · exact ⟨((I 11 (by omega)).1 d1).1, ((I 11 (by omega)).1 d1).2.2.1⟩
  refine sg_doE (by omega) g1 rfl (fun ψ w h1 h0 => sg_leSwitch (x := 9) (y := 11) (z := 0) (by omega) (by omega) (by omega) (by omega) (g1 13 (by omega)) (g2 13 (by omega)) y13 z13 h1 h0) hD I s3 (by rw [s1, o9, hp.1]) (fun z => ?_) h
  rw [o9, hp.1] at z
  rw [o9, s2 (s1.trans z), hp.2 z]
theorem sg_n5 (G : sg_G bz a1 a2 a3 a4 a5 a6) (S : sg_Spec H C V O bz kt ov a9) (hD : ¬ D 5) (d2 : D 2) (I : sg_Inv H C V O ks a6 D hv ch wt a7 a8)
    (h : ∀ hv ch wt a7 a8, sg_Inv H C V O ks a6 (fun m => D m ∨ m = 5) hv ch wt a7 a8 → post (nc, ar, hv, ch, kt, ov, tc, lv, wt, a1, a2, a3, a4, a5, a6, a7, a8, a9, a10)) : wpX_look post (nc, ar, hv, ch, kt, ov, tc, lv, wt, a1, a2, a3, a4, a5, a6, a7, a8, a9, a10) (nI 5) := by
  obtain ⟨g1, g2, -⟩ := G
  obtain ⟨-, -, -, -, -, ⟨s1, s2, s3⟩, -⟩ := S
  obtain ⟨p1, p2, p3, p4⟩ := (I 2 (by omega)).1 d2
  exact sg_doE (by omega) g1 rfl (fun ψ w h1 h0 => sg_leChange (x := 2) (by omega) (by omega) (g1 5 (by omega)) (g2 5 (by omega)) h1 h0) hD I s3 (by rw [s1, p2]) (fun z => by rw [p2] at z; rw [s2 z, p4 z]) h
theorem sg_n8 (G : sg_G bz a1 a2 a3 a4 a5 a6) (S : sg_Spec H C V O bz kt ov a9) (hD : ¬ D 8) (d5 : D 5) (I : sg_Inv H C V O ks a6 D hv ch wt a7 a8)
    (h : ∀ hv ch wt a7 a8, sg_Inv H C V O ks a6 (fun m => D m ∨ m = 8) hv ch wt a7 a8 → post (nc, ar, hv, ch, kt, ov, tc, lv, wt, a1, a2, a3, a4, a5, a6, a7, a8, a9, a10)) : wpX_look post (nc, ar, hv, ch, kt, ov, tc, lv, wt, a1, a2, a3, a4, a5, a6, a7, a8, a9, a10) (nI 8) := by
  obtain ⟨g1, g2, ⟨-, -, y8, -⟩, -⟩ := G
  obtain ⟨-, -, -, -, -, -, -, -, ⟨s1, s2, s3⟩, -⟩ := S
  obtain ⟨p1, p2, p3, p4⟩ := (I 5 (by omega)).1 d5
  have ee : (sg_bt hv 5 && !decide (a7 5 < a3 8)) = H 8 := by
    rw [s1, p1, y8]
    cases hp : H 5
    · rw [Bool.false_and, Bool.false_and]
    · rw [p3 hp]
  refine sg_doE (by omega) g1 rfl (fun ψ w h1 h0 => sg_leFilter (x := 5) (by omega) (by omega) (g1 8 (by omega)) (g2 8 (by omega)) h1 h0) hD I s3 (by rw [ee]) (fun z => ?_) h
  rw [p1, Bool.and_eq_true] at z
  rw [s2 z.1, p3 z.1]
theorem sg_n2 (G : sg_G bz a1 a2 a3 a4 a5 a6) (S : sg_Spec H C V O bz kt ov a9) (hD : ¬ D 2) (d4 : D 4) (I : sg_Inv H C V O ks a6 D hv ch wt a7 a8)
    (h : ∀ hv ch wt a7 a8, sg_Inv H C V O ks a6 (fun m => D m ∨ m = 2) hv ch wt a7 a8 → post (nc, ar, hv, ch, kt, ov, tc, lv, wt, a1, a2, a3, a4, a5, a6, a7, a8, a9, a10)) : wpX_look post (nc, ar, hv, ch, kt, ov, tc, lv, wt, a1, a2, a3, a4, a5, a6, a7, a8, a9, a10) (nI 2) := by
  obtain ⟨g1, g2, -⟩ := G
  obtain ⟨-, -, ⟨s1, s2, s3⟩, -⟩ := S
  obtain ⟨p1, p2, p3, p4⟩ := (I 4 (by omega)).1 d4
  have o2 := (I 2 (by omega)).2.2 rfl
  have ee : (if sg_bt hv 4 = true then a7 4 else a7 2) = V 2 := by
    rw [s2, p1, o2]
    cases hp : H 4
    · rfl
    · rw [p3 hp]
  exact sg_doC (by omega) g1 rfl (fun ψ w h1 h0 => sg_lcHold (x := 4) (by omega) (by omega) (g1 2 (by omega)) (g2 2 (by omega)) h1 (fun z => h0 (fun y => y z))) hD I s1 (by rw [ee, o2, s3]; exact sg_bnot) (fun _ => ee) h
theorem sg_n9 (G : sg_G bz a1 a2 a3 a4 a5 a6) (S : sg_Spec H C V O bz kt ov a9) (hD : ¬ D 9) (d8 : D 8) (I : sg_Inv H C V O ks a6 D hv ch wt a7 a8)
    (h : ∀ hv ch wt a7 a8, sg_Inv H C V O ks a6 (fun m => D m ∨ m = 9) hv ch wt a7 a8 → post (nc, ar, hv, ch, kt, ov, tc, lv, wt, a1, a2, a3, a4, a5, a6, a7, a8, a9, a10)) : wpX_look post (nc, ar, hv, ch, kt, ov, tc, lv, wt, a1, a2, a3, a4, a5, a6, a7, a8, a9, a10) (nI 9) := by
  obtain ⟨g1, g2, -⟩ := G
  obtain ⟨-, -, -, -, -, -, -, -, -, ⟨s1, s2, s3⟩, -⟩ := S
  obtain ⟨p1, p2, p3, p4⟩ := (I 8 (by omega)).1 d8
  have o9 := (I 9 (by omega)).2.2 rfl
  have ee : (if sg_bt hv 8 = true then a7 8 else a7 9) = V 9 := by
    rw [s2, p1, o9]
    cases hp : H 8
    · rfl
    · rw [p3 hp]
  exact sg_doC (by omega) g1 rfl (fun ψ w h1 h0 => sg_lcHold (x := 8) (by omega) (by omega) (g1 9 (by omega)) (g2 9 (by omega)) h1 (fun z => h0 (fun y => y z))) hD I s1 (by rw [ee, o9, s3]; exact sg_bnot) (fun _ => ee) h
theorem sg_cvw {m : Nat} (hm : m < 15) (d : D m) (hk : sg_isC (sg_kT m) = true) (I : sg_Inv H C V O ks a6 D hv ch wt a7 a8) : sg_cv ch a7 a8 m = sg_w C V O m := by
  obtain ⟨p1, p2, p3, p4⟩ := (I m hm).1 d
  have o := (I m hm).2.2 hk
  unfold sg_cv sg_w
  rw [p2]
  cases hp : C m
  · exact o
  · exact p4 hp
theorem sg_n10 (G : sg_G bz a1 a2 a3 a4 a5 a6) (S : sg_Spec H C V O bz kt ov a9) (hD : ¬ D 10) (d2 : D 2) (I : sg_Inv H C V O ks a6 D hv ch wt a7 a8)
    (h : ∀ hv ch wt a7 a8, sg_Inv H C V O ks a6 (fun m => D m ∨ m = 10) hv ch wt a7 a8 → post (nc, ar, hv, ch, kt, ov, tc, lv, wt, a1, a2, a3, a4, a5, a6, a7, a8, a9, a10)) : wpX_look post (nc, ar, hv, ch, kt, ov, tc, lv, wt, a1, a2, a3, a4, a5, a6, a7, a8, a9, a10) (nI 10) := by
  obtain ⟨g1, g2, ⟨-, -, -, y10, -⟩, ⟨z10, -⟩, -⟩ := G
  obtain ⟨-, -, -, -, -, -, -, -, -, -, ⟨s1, s2, s3⟩, -⟩ := S
  have o10 := (I 10 (by omega)).2.2 rfl
  have ee : sg_cv ch a7 a8 2 * a3 10 + a4 10 = V 10 := by rw [sg_cvw (by omega) d2 rfl I, y10, z10, s2]
  exact sg_doC (by omega) g1 rfl (fun ψ w h1 h0 => sg_lcComb (by omega) (by rw [g1 10 (by omega)]; decide) (fun φ hφ => sg_cbTimes (sg_cv ch a7 a8) (x := 2) (fun φ p hp hh => sg_cvA hp hh) (by omega) (by omega) (g1 10 (by omega)) (g2 10 (by omega)) hφ) h1 (fun z => h0 (fun y => y z))) hD I s1 (by rw [ee, o10, s3]; exact sg_bnot) (fun _ => ee) h
theorem sg_n14 (G : sg_G bz a1 a2 a3 a4 a5 a6) (S : sg_Spec H C V O bz kt ov a9) (hD : ¬ D 14) (d2 : D 2) (d9 : D 9) (d10 : D 10) (I : sg_Inv H C V O ks a6 D hv ch wt a7 a8)
    (h : ∀ hv ch wt a7 a8, sg_Inv H C V O ks a6 (fun m => D m ∨ m = 14) hv ch wt a7 a8 → post (nc, ar, hv, ch, kt, ov, tc, lv, wt, a1, a2, a3, a4, a5, a6, a7, a8, a9, a10)) : wpX_look post (nc, ar, hv, ch, kt, ov, tc, lv, wt, a1, a2, a3, a4, a5, a6, a7, a8, a9, a10) (nI 14) := by
  obtain ⟨g1, g2, ⟨-, -, -, -, -, -, y14⟩, ⟨-, -, z14⟩, -⟩ := G
  obtain ⟨-, -, -, -, -, -, -, -, -, -, -, -, -, -, ⟨s1, s2, s3⟩, -⟩ := S
  have o14 := (I 14 (by omega)).2.2 rfl
  have ee : (if sg_cv ch a7 a8 9 = 0 then sg_cv ch a7 a8 2 else sg_cv ch a7 a8 10) = V 14 := by rw [sg_cvw (by omega) d2 rfl I, sg_cvw (by omega) d9 rfl I, sg_cvw (by omega) d10 rfl I, s2]
  exact sg_doC (by omega) g1 rfl (fun ψ w h1 h0 => sg_lcComb (by omega) (by rw [g1 14 (by omega)]; decide) (fun φ hφ => sg_cbSelect (sg_cv ch a7 a8) (x := 9) (y := 10) (z := 2) (fun φ p hp hh => sg_cvA hp hh) (by omega) (by omega) (by omega) (by omega) (g1 14 (by omega)) (g2 14 (by omega)) y14 z14 hφ) h1 (fun z => h0 (fun y => y z))) hD I s1 (by rw [ee, o14, s3]; exact sg_bnot) (fun _ => ee) h
/-- a node that nobody told has nothing to tell -/
theorem sg_quiet (G : sg_G bz a1 a2 a3 a4 a5 a6) (S : sg_Spec H C V O bz kt ov a9) : ∀ n, n < 15 → sg_ks kt n = false → (∀ p, p < 15 → sg_bt (a6 p) n = true → (H p || C p) = false) → H n = false ∧ C n = false := by
  obtain ⟨-, -, -, -, -, g6⟩ := G
  obtain ⟨⟨h0, -, c0⟩, ⟨h1, -, c1⟩, ⟨h2, v2, c2⟩, ⟨h3, -, c3⟩, ⟨h4, -, c4⟩, ⟨h5, -, c5⟩, ⟨h6, -, c6⟩, ⟨h7, -, c7⟩, ⟨h8, -, c8⟩, ⟨h9, v9, c9⟩, ⟨h10, v10, c10⟩, ⟨h11, -, c11⟩, ⟨h12, -, c12⟩, ⟨h13, -, c13⟩, ⟨h14, v14, c14⟩, o10, o14⟩ := S
  intro n hn hk hp
  have part : ∀ p, p < 15 → sg_bt (sg_uT p) n = true → H p = false ∧ C p = false := by
    intro p hp' hb
    have := hp p hp' (by rw [g6 p hp']; exact hb)
    exact Bool.or_eq_false_iff.mp this
  have hc : n = 0 ∨ n = 1 ∨ n = 2 ∨ n = 3 ∨ n = 4 ∨ n = 5 ∨ n = 6 ∨ n = 7 ∨ n = 8 ∨ n = 9 ∨ n = 10 ∨ n = 11 ∨ n = 12 ∨ n = 13 ∨ n = 14 := by omega
  rcases hc with e | e | e | e | e | e | e | e | e | e | e | e | e | e | e <;> subst e
  · simp [sg_ks] at hk
    exact ⟨h0.trans hk, c0⟩
  · simp [sg_ks] at hk
    exact ⟨h1.trans hk, c1⟩
  · have q := (part 4 (by omega) (by decide)).1
    rw [q] at v2
    exact ⟨h2, by rw [c2, v2]; simp⟩
  · exact ⟨h3.trans (part 0 (by omega) (by decide)).1, c3⟩
  · exact ⟨by rw [h4, (part 1 (by omega) (by decide)).1, (part 3 (by omega) (by decide)).1]; rfl, c4⟩
  · exact ⟨h5.trans (part 2 (by omega) (by decide)).2, c5⟩
  · simp [sg_ks] at hk
    exact ⟨h6.trans hk, c6⟩
  · exact ⟨h7.trans (part 0 (by omega) (by decide)).1, c7⟩
  · exact ⟨by rw [h8, (part 5 (by omega) (by decide)).1]; rfl, c8⟩
  · have q := (part 8 (by omega) (by decide)).1
    rw [q] at v9
    exact ⟨h9, by rw [c9, v9]; simp⟩
  · have q := (part 2 (by omega) (by decide)).2
    exact ⟨h10, by rw [c10, v10, o10, sg_w, q]; simp⟩
  · exact ⟨by rw [h11, (part 1 (by omega) (by decide)).1]; rfl, c11⟩
  · exact ⟨by rw [h12, (part 11 (by omega) (by decide)).1]; rfl, c12⟩
  · refine ⟨?_, c13⟩
    rw [h13]
    split
    · exact (part 0 (by omega) (by decide)).1
    · exact (part 11 (by omega) (by decide)).1
  · have q2 := (part 2 (by omega) (by decide)).2
    have q9 := (part 9 (by omega) (by decide)).2
    have q10 := (part 10 (by omega) (by decide)).2
    refine ⟨h14, ?_⟩
    rw [c14, v14, o14]
    unfold sg_w
    rw [q2, q9, q10]
    simp
end
end
section
def sg_D (h n m : Nat) : Prop := sg_hN m < h ∨ (sg_hN m = h ∧ m < n)
theorem sg_Dn {n : Nat} : ¬ sg_D (sg_hN n) n n := by unfold sg_D; omega
theorem sg_Ds {n m : Nat} : (sg_D (sg_hN n) n m ∨ m = n) ↔ sg_D (sg_hN n) (n + 1) m := by
  unfold sg_D
  by_cases e : m = n
  · subst e; omega
  · omega
theorem sg_Dq {h n m : Nat} (e : ¬ sg_hN n = h) : sg_D h n m ↔ sg_D h (n + 1) m := by
  unfold sg_D
  by_cases e : m = n
  · subst e; omega
  · omega
theorem sg_De {h m : Nat} (hm : m < 15) : sg_D h 15 m ↔ sg_D (h + 1) 0 m := by unfold sg_D; omega
theorem sg_Dall {m : Nat} (hm : m < 15) : sg_D 24 0 m := Or.inl ((by decide : ∀ m, m < 15 → sg_hN m < 24) m hm)
theorem sg_up : ∀ n, n < 15 → ∀ p, p < 15 → sg_bt (sg_uT p) n = true → sg_hN p < sg_hN n := by decide +kernel
section
variable {H C : Nat → Bool} {V O : Nat → Int32} {bz : Int32}
theorem sg_lookAll {ks : Nat → Bool} {post : St1 → Prop} {nc ar hv ch kt ov tc lv wt : Int32} {a1 a2 a3 a4 a5 a6 a7 a8 a9 a10 : Nat → Int32} {n h : Nat} (hn : n < 15) (e : sg_hN n = h) (G : sg_G bz a1 a2 a3 a4 a5 a6) (S : sg_Spec H C V O bz kt ov a9) (I : sg_Inv H C V O ks a6 (sg_D h n) hv ch wt a7 a8)
    (hp : ∀ hv ch wt a7 a8, sg_Inv H C V O ks a6 (sg_D h (n + 1)) hv ch wt a7 a8 → post (nc, ar, hv, ch, kt, ov, tc, lv, wt, a1, a2, a3, a4, a5, a6, a7, a8, a9, a10)) : wpX_look post (nc, ar, hv, ch, kt, ov, tc, lv, wt, a1, a2, a3, a4, a5, a6, a7, a8, a9, a10) (nI n) := by
  subst e
  have hp' : ∀ hv ch wt a7 a8, sg_Inv H C V O ks a6 (fun m => sg_D (sg_hN n) n m ∨ m = n) hv ch wt a7 a8 → post (nc, ar, hv, ch, kt, ov, tc, lv, wt, a1, a2, a3, a4, a5, a6, a7, a8, a9, a10) := fun _ _ _ _ _ J => hp _ _ _ _ _ (sg_Icong (fun m _ => sg_Ds) J)
  have hc : n = 0 ∨ n = 1 ∨ n = 2 ∨ n = 3 ∨ n = 4 ∨ n = 5 ∨ n = 6 ∨ n = 7 ∨ n = 8 ∨ n = 9 ∨ n = 10 ∨ n = 11 ∨ n = 12 ∨ n = 13 ∨ n = 14 := by omega
  rcases hc with e | e | e | e | e | e | e | e | e | e | e | e | e | e | e <;> subst e
  · exact sg_n0 G S sg_Dn I hp'
  · exact sg_n1 G S sg_Dn I hp'
  · exact sg_n2 G S sg_Dn (Or.inl (by decide)) I hp'
  · exact sg_n3 G S sg_Dn (Or.inl (by decide)) I hp'
  · exact sg_n4 G S sg_Dn (Or.inl (by decide)) (Or.inl (by decide)) I hp'
  · exact sg_n5 G S sg_Dn (Or.inl (by decide)) I hp'
  · exact sg_n6 G S sg_Dn I hp'
  · exact sg_n7 G S sg_Dn (Or.inl (by decide)) I hp'
  · exact sg_n8 G S sg_Dn (Or.inl (by decide)) I hp'
  · exact sg_n9 G S sg_Dn (Or.inl (by decide)) I hp'
  · exact sg_n10 G S sg_Dn (Or.inl (by decide)) I hp'
  · exact sg_n11 G S sg_Dn (Or.inl (by decide)) I hp'
  · exact sg_n12 G S sg_Dn (Or.inl (by decide)) I hp'
  · exact sg_n13 G S sg_Dn (Or.inl (by decide)) (Or.inl (by decide)) I hp'
  · exact sg_n14 G S sg_Dn (Or.inl (by decide)) (Or.inl (by decide)) (Or.inl (by decide)) I hp'
theorem sg_skip {hv ch kt ov wt : Int32} {a1 a2 a3 a4 a5 a6 a7 a8 a9 : Nat → Int32} {n h : Nat} (G : sg_G bz a1 a2 a3 a4 a5 a6) (S : sg_Spec H C V O bz kt ov a9) (hn : n < 15) (hw : sg_bt wt n = false) (I : sg_Inv H C V O (sg_ks kt) a6 (sg_D h n) hv ch wt a7 a8) : sg_Inv H C V O (sg_ks kt) a6 (sg_D h (n + 1)) hv ch wt a7 a8 := by
  by_cases e : sg_hN n = h
  · subst e
    obtain ⟨-, i2, -⟩ := I n hn
    obtain ⟨-, -, k3, k4⟩ := i2 sg_Dn
    have q := sg_quiet G S n hn (sg_nt (fun z => absurd (hw.symm.trans (k3 z)) (by decide))) (fun p hp hb => sg_nt (fun z => absurd (hw.symm.trans (k4 p hp (Or.inl (sg_up n hn p hp (by rw [← G.2.2.2.2.2 p hp]; exact hb))) hb z)) (by decide)))
    exact sg_Icong (fun m _ => sg_Ds) (sg_step0 hn sg_Dn q.2 q.1 I (fun m _ _ z => z))
  · exact sg_Icong (fun m _ => sg_Dq e) I
theorem sg_rest {hv ch kt ov : Int32} {a1 a2 a3 a4 a5 a6 a7 a8 a9 : Nat → Int32} (G : sg_G bz a1 a2 a3 a4 a5 a6) (S : sg_Spec H C V O bz kt ov a9) : ∀ (d h : Nat), h + d = 24 → sg_Inv H C V O (sg_ks kt) a6 (sg_D h 0) hv ch 0 a7 a8 → sg_Inv H C V O (sg_ks kt) a6 (sg_D 24 0) hv ch 0 a7 a8 := by
  intro d
  induction d with
  | zero => intro h hd I; rw [show h = 24 by omega] at I; exact I
  | succ d ih =>
    intro h hd I
    have go : ∀ k, k ≤ 15 → sg_Inv H C V O (sg_ks kt) a6 (sg_D h k) hv ch 0 a7 a8 := by
      intro k
      induction k with
      | zero => intro _; exact I
      | succ k ihk => intro hk; exact sg_skip G S (by omega) (sg_b0 k) (ihk (by omega))
    exact ih (h + 1) (by omega) (sg_Icong (fun m hm => sg_De hm) (go 15 (by omega)))
theorem sg_c100 {ps : Int32 → St1 → Prop} {J : Int32 → Int32 → Int32 → Int32 → Int32 → Int32 → Int32 → Int32 → Int32 → Int32 → (Nat → Int32) → (Nat → Int32) → (Nat → Int32) → (Nat → Int32) → (Nat → Int32) → (Nat → Int32) → (Nat → Int32) → (Nat → Int32) → (Nat → Int32) → (Nat → Int32) → Prop} {ar kt ov tc lv : Int32} {a1 a2 a3 a4 a5 a6 a9 a10 : Nat → Int32} (G : sg_G bz a1 a2 a3 a4 a5 a6) (S : sg_Spec H C V O bz kt ov a9) {h : Nat} (hh : h < 24)
    (hJ : ∀ hv ch wt a7 a8, sg_Inv H C V O (sg_ks kt) a6 (sg_D (h + 1) 0) hv ch wt a7 a8 → J (nI (h + 1)) (nI 15) ar hv ch kt ov tc lv wt a1 a2 a3 a4 a5 a6 a7 a8 a9 a10) :
    ∀ (d n : Nat), n + d = 15 → ∀ hv ch wt a7 a8, sg_Inv H C V O (sg_ks kt) a6 (sg_D h n) hv ch wt a7 a8 → wX_commit_100 ps J (nI h) (d + 1) (nI n) (nI 15) ar hv ch kt ov tc lv wt a1 a2 a3 a4 a5 a6 a7 a8 a9 a10 := by
  intro d
  induction d with
  | zero =>
    intro n hn hv ch wt a7 a8 I
    rw [show n = 15 by omega] at I
    rw [show n = 15 by omega]
    exact pk_le 15 15 (fun _ => nm_r (nI_1 h) (hJ _ _ _ _ _ (sg_Icong (fun m hm => sg_De hm) I))) (fun z => absurd z (by omega))
  | succ d ih =>
    intro n hn hv ch wt a7 a8 I
    refine pk_le 15 n (fun z => absurd z (by omega)) (fun _ => sg_brT (by omega) (fun z => nm_r (nI_1 n) (ih (n + 1) (by omega) _ _ _ _ _ (sg_skip G S (by omega) z I))) (fun z => ⟨sg_vp (by omega), ?_⟩))
    rw [sg_cl (by omega), G.2.2.2.2.1 n (by omega)]
    have hb : sg_hN n < 24 := (by decide : ∀ m, m < 15 → sg_hN m < 24) n (by omega)
    refine pk_eq (sg_hN n) h (fun e => ?_) (fun e => nm_r (nI_1 n) (ih (n + 1) (by omega) _ _ _ _ _ (sg_Icong (fun m _ => sg_Dq e) I)))
    exact sg_lookAll (by omega) e G S I (fun hv ch wt a7 a8 I' => nm_r (nI_1 n) (ih (n + 1) (by omega) _ _ _ _ _ I'))
theorem sg_c85 {ps : Int32 → St1 → Prop} {ar kt ov tc lv : Int32} {a1 a2 a3 a4 a5 a6 a9 a10 : Nat → Int32} (G : sg_G bz a1 a2 a3 a4 a5 a6) (S : sg_Spec H C V O bz kt ov a9)
    (hF : ∀ hv ch wt a7 a8, sg_Inv H C V O (sg_ks kt) a6 (sg_D 24 0) hv ch wt a7 a8 → wX_commit_146 ps (nI 15) ar hv ch kt ov tc lv wt a1 a2 a3 a4 a5 a6 a7 a8 a9 a10) :
    ∀ (d h : Nat), h + d = 24 → ∀ hv ch wt a7 a8, sg_Inv H C V O (sg_ks kt) a6 (sg_D h 0) hv ch wt a7 a8 → wX_commit_85 ps (d + 1) (nI h) (nI 15) ar hv ch kt ov tc lv wt a1 a2 a3 a4 a5 a6 a7 a8 a9 a10 := by
  intro d
  induction d with
  | zero =>
    intro h hd hv ch wt a7 a8 I
    rw [show h = 24 by omega] at I
    rw [show h = 24 by omega]
    exact pk_le 24 24 (fun _ => hF _ _ _ _ _ I) (fun z => absurd z (by omega))
  | succ d ih =>
    intro h hd hv ch wt a7 a8 I
    refine pk_le 24 h (fun z => absurd z (by omega)) (fun _ => br_c (fun z => hF _ _ _ _ _ ?_) (fun _ => ⟨16, sg_c100 G S (by omega) (fun hv ch wt a7 a8 I' => ih (h + 1) (by omega) _ _ _ _ _ I') 15 0 (by omega) _ _ _ _ _ I⟩))
    subst z
    exact sg_rest G S (d + 1) h hd I
theorem sg_sbi {ψ : Int32 → Prop} {nc ar hv ch kt ov tc lv wt : Int32} {a1 a2 a3 a4 a5 a6 a7 a8 a9 a10 : Nat → Int32} {n : Nat} (hn : n < 15) (g1 : ∀ m, m < 15 → a1 m = sg_kT m) (h1 : ψ 1) (h0 : sg_ks kt n = false → ψ 0) : wpX_startsByItself ψ (nc, ar, hv, ch, kt, ov, tc, lv, wt, a1, a2, a3, a4, a5, a6, a7, a8, a9, a10) (nI n) := by
  have e := sg_cl (show n < 24 by omega)
  have go : wX_startsByItself_20 ψ (nI n) nc ar hv ch kt ov tc lv wt a1 a2 a3 a4 a5 a6 a7 a8 a9 a10 := sg_brT (by omega) (fun z => h0 (by unfold sg_ks; rw [z]; rfl)) (fun _ => h1)
  unfold wpX_startsByItself
  dsimp only
  rw [e, g1 n hn]
  refine ⟨sg_vp (by omega), br_c (fun _ => go) (fun z0 => ⟨sg_vp (by omega), br_c (fun _ => go) (fun z1 => h0 ?_)⟩)⟩
  have k0 : n ≠ 0 := fun q => z0 (by rw [q]; rfl)
  have k1 : n ≠ 1 := fun q => z0 (by rw [q]; rfl)
  have k6 : n ≠ 6 := fun q => z1 (by rw [q]; rfl)
  simp [sg_ks, k0, k1, k6]
theorem sg_c49 {ps : Int32 → St1 → Prop} {ar kt ov tc lv : Int32} {a1 a2 a3 a4 a5 a6 a7 a8 a9 a10 : Nat → Int32} (G : sg_G bz a1 a2 a3 a4 a5 a6) (S : sg_Spec H C V O bz kt ov a9) (hO : ∀ m, m < 15 → sg_isC (sg_kT m) = true → a7 m = O m)
    (hF : ∀ hv ch wt a7 a8, sg_Inv H C V O (sg_ks kt) a6 (sg_D 24 0) hv ch wt a7 a8 → wX_commit_146 ps (nI 15) ar hv ch kt ov tc lv wt a1 a2 a3 a4 a5 a6 a7 a8 a9 a10) :
    ∀ (d n : Nat), n + d = 15 → ∀ wt, (∀ m, m < n → sg_ks kt m = true → sg_bt wt m = true) → wX_commit_49 ps (nI 15) ar 0 0 kt ov tc lv a1 a2 a3 a4 a5 a6 a7 a8 a9 a10 (d + 1) (nI n) wt := by
  intro d
  induction d with
  | zero =>
    intro n hn wt hw
    rw [show n = 15 by omega] at hw
    rw [show n = 15 by omega]
    refine pk_le 15 15 (fun _ => ⟨25, sg_c85 G S hF 24 0 (by omega) _ _ _ _ _ ?_⟩) (fun z => absurd z (by omega))
    intro m hm
    have nd : ∀ p, ¬ sg_D 0 0 p := by intro p; unfold sg_D; omega
    exact ⟨fun d => absurd d (nd m), fun _ => ⟨sg_b0 m, sg_b0 m, hw m hm, fun p _ d => absurd d (nd p)⟩, hO m hm⟩
  | succ d ih =>
    intro n hn wt hw
    refine pk_le 15 n (fun z => absurd z (by omega)) (fun _ => sg_sbi (by omega) G.1 (br_f (by decide) (nm_e (nm_r (nI_1 n) (ih (n + 1) (by omega) _ (fun m hm hk => ?_))))) (fun z => br_t rfl (nm_r (nI_1 n) (ih (n + 1) (by omega) _ (fun m hm hk => ?_)))))
    · rw [sg_set wt (by omega) (by omega)]
      by_cases q : m = n
      · simp [q]
      · rw [hw m (by omega) hk]; rfl
    · by_cases q : m = n
      · rw [q, z] at hk; exact absurd hk (by decide)
      · exact hw m (by omega) hk
end
end
section
def sg_A7 (ch : Int32) (a7 a8 : Nat → Int32) (i : Nat) (b7 : Nat → Int32) : Prop := ∀ m, m < 15 → b7 m = if m < i ∧ sg_bt ch m = true then a8 m else a7 m
def sg_T (hv t12 : Int32) (i : Nat) (b10 : Nat → Int32) : Prop := b10 12 = if 12 < i ∧ sg_bt hv 12 = true then t12 + 1 else t12
def sg_R (hv v7 k7 : Int32) (o12 : Bool) (i : Nat) (kt ov : Int32) (a9 : Nat → Int32) : Prop :=
  (0 < i → sg_bt kt 0 = false) ∧ (1 < i → sg_bt kt 1 = false) ∧ (sg_bt ov 12 = (o12 || (decide (12 < i) && sg_bt hv 12))) ∧ (a9 7 = if 7 < i ∧ sg_bt hv 7 = true then v7 else k7)
def sg_Q (hv k7 : Int32) (a7 : Nat → Int32) (i : Nat) (kt : Int32) (a9 : Nat → Int32) : Prop :=
  sg_bt kt 0 = false ∧ sg_bt kt 1 = false ∧ a9 7 = k7 ∧ (6 < i → sg_bt kt 6 = sg_bt hv 5 ∧ (sg_bt hv 5 = true → a9 6 = a7 5))
def sg_cnt (H : Nat → Bool) : Nat → Nat
  | 0 => 0
  | n + 1 => sg_cnt H n + (if H n = true then 1 else 0)
theorem sg_ifm {m i : Nat} {b : Bool} {x y : Int32} (h : m ≠ i) : (if m < i + 1 ∧ b = true then x else y) = (if m < i ∧ b = true then x else y) := by
  by_cases k : m < i
  · have k2 : m < i + 1 := by omega
    simp [k, k2]
  · have k2 : ¬ m < i + 1 := by omega
    simp [k, k2]
theorem sg_Rsame {hv v7 k7 : Int32} {o12 : Bool} {i : Nat} {kt ov : Int32} {a9 : Nat → Int32} (h0 : i ≠ 0) (h1 : i ≠ 1) (h7 : i = 7 → sg_bt hv 7 = false) (h12 : i = 12 → sg_bt hv 12 = false) (R : sg_R hv v7 k7 o12 i kt ov a9) : sg_R hv v7 k7 o12 (i + 1) kt ov a9 := by
  obtain ⟨r1, r2, r3, r4⟩ := R
  refine ⟨fun _ => r1 (by omega), fun _ => r2 (by omega), ?_, ?_⟩
  · rw [r3]
    by_cases e : i = 12
    · rw [h12 e]; simp
    · rw [show decide (12 < i + 1) = decide (12 < i) from decide_eq_decide.mpr (by omega)]
  · rw [r4]
    by_cases e : i = 7
    · rw [h7 e]; simp
    · rw [sg_ifm (fun q => e q.symm)]
theorem sg_k8 : ∀ i, i < 15 → sg_kT i = 8 → i = 7 := by decide +kernel
theorem sg_k12 : ∀ i, i < 15 → sg_kT i = 12 → i = 12 := by decide +kernel
theorem sg_k0 : ∀ i, i < 15 → sg_kT i = 0 → i = 0 ∨ i = 1 := by decide +kernel
theorem sg_k11 : ∀ i, i < 15 → sg_kT i = 11 → i = 6 := by decide +kernel
section
variable {ps : St1 → Prop} {J : Int32 → Int32 → Int32 → (Nat → Int32) → (Nat → Int32) → (Nat → Int32) → (Nat → Int32) → (Nat → Int32) → (Nat → Int32) → (Nat → Int32) → (Nat → Int32) → (Nat → Int32) → (Nat → Int32) → Prop} {nc ar hv ch kt ov tc lv wt : Int32} {a1 a2 a3 a4 a5 a6 a7 a8 a9 a10 : Nat → Int32} {v7 k7 t12 : Int32} {o12 : Bool} {i : Nat}
theorem sg_f109 (hi : i < 15) (h0 : ¬ sg_kT i = 0) (h8 : i = 7 → sg_bt hv 7 = false) (R : sg_R hv v7 k7 o12 i kt ov a9)
    (hK : ∀ kt ov a9, sg_R hv v7 k7 o12 (i + 1) kt ov a9 → J (nI (i + 1)) kt ov a1 a2 a3 a4 a5 a6 a7 a8 a9 a10) : wX_finish_109 ps J (nI i) ((1 : Int32) <<< (nI i &&& 31)) (sg_kT i) nc ar hv ch kt ov tc lv wt a1 a2 a3 a4 a5 a6 a7 a8 a9 a10 := by
  have n0 : i ≠ 0 := fun q => h0 (by rw [q]; rfl)
  have n1 : i ≠ 1 := fun q => h0 (by rw [q]; rfl)
  unfold wX_finish_109
  refine br_c (fun z => ?_) (fun z => nm_r (nI_1 i) (hK _ _ _ (sg_Rsame n0 n1 h8 (fun q => absurd (by rw [q]; rfl) z) R)))
  have e := sg_k12 i hi z
  subst e
  refine sg_has (by omega) (fun p => br_f (by decide) (nm_e (nm_r (nI_1 12) (hK _ _ _ ?_)))) (fun p => br_t rfl (nm_r (nI_1 12) (hK _ _ _ (sg_Rsame n0 n1 h8 (fun _ => p) R))))
  obtain ⟨r1, r2, r3, r4⟩ := R
  refine ⟨fun _ => r1 (by omega), fun _ => r2 (by omega), ?_, ?_⟩
  · rw [sg_set ov (by omega) (by omega), p]; simp
  · rw [r4]; simp
theorem sg_f54 (hi : i < 15) (g1 : ∀ m, m < 15 → a1 m = sg_kT m) (h7 : a7 7 = v7) (R : sg_R hv v7 k7 o12 i kt ov a9)
    (hK : ∀ kt ov a9, sg_R hv v7 k7 o12 (i + 1) kt ov a9 → J (nI (i + 1)) kt ov a1 a2 a3 a4 a5 a6 a7 a8 a9 a10) : wX_finish_54 ps J (nI i) ((1 : Int32) <<< (nI i &&& 31)) nc ar hv ch kt ov tc lv wt a1 a2 a3 a4 a5 a6 a7 a8 a9 a10 := by
  unfold wX_finish_54
  rw [sg_cl (show i < 24 by omega), g1 i hi]
  refine ⟨sg_vp (by omega), nm_e (br_c (fun z => nm_e (nm_r (nI_1 i) (hK _ _ _ ?_))) (fun z => br_c (fun y => ?_) (fun y => ?_)))⟩
  · obtain ⟨r1, r2, r3, r4⟩ := R
    have k := sg_k0 i hi z
    refine ⟨fun _ => ?_, fun _ => ?_, ?_, ?_⟩
    · rw [sg_clr kt (by omega) (by omega)]
      rcases k with k | k
      · rw [k]; simp
      · rw [r1 (by omega)]; rfl
    · rw [sg_clr kt (by omega) (by omega)]
      have : i = 1 := by omega
      rw [this]; simp
    · rw [r3, show decide (12 < i + 1) = decide (12 < i) from decide_eq_decide.mpr (by omega)]
    · rw [r4, if_neg (fun q => absurd q.1 (by omega)), if_neg (fun q => absurd q.1 (by omega))]
  · have e := sg_k8 i hi y
    subst e
    refine sg_has (by omega) (fun p => br_f (by decide) ⟨sg_vp (by omega), sg_vp (by omega), nm_e (nm_r (nI_1 7) (hK _ _ _ ?_))⟩) (fun p => br_t rfl (sg_f109 hi z (fun _ => p) R hK))
    obtain ⟨r1, r2, r3, r4⟩ := R
    refine ⟨fun _ => r1 (by omega), fun _ => r2 (by omega), r3, ?_⟩
    rw [pk_us, if_pos ⟨by omega, p⟩, h7]
  · exact sg_f109 hi z (fun q => absurd (by rw [q]; rfl) y) R hK
theorem sg_f35 (hi : i < 15) (g1 : ∀ m, m < 15 → a1 m = sg_kT m) (h7 : a7 7 = v7) (R : sg_R hv v7 k7 o12 i kt ov a9) (T : sg_T hv t12 i a10)
    (hK : ∀ kt ov a9 a10, sg_R hv v7 k7 o12 (i + 1) kt ov a9 → sg_T hv t12 (i + 1) a10 → J (nI (i + 1)) kt ov a1 a2 a3 a4 a5 a6 a7 a8 a9 a10) : wX_finish_35 ps J (nI i) ((1 : Int32) <<< (nI i &&& 31)) nc ar hv ch kt ov tc lv wt a1 a2 a3 a4 a5 a6 a7 a8 a9 a10 := by
  unfold wX_finish_35
  rw [sg_cl (show i < 24 by omega)]
  unfold sg_T at T hK
  refine sg_brA (by omega) (fun p => sg_f54 hi g1 h7 R (fun _ _ _ R' => hK _ _ _ _ R' ?_)) (fun p => ⟨sg_vp (by omega), sg_vp (by omega), nm_e (sg_f54 hi g1 h7 R (fun _ _ _ R' => hK _ _ _ _ R' ?_))⟩)
  · rw [T]
    by_cases e : i = 12
    · subst e; rw [p]; simp
    · rw [sg_ifm (fun q => e q.symm)]
  · by_cases e : i = 12
    · subst e
      rw [pk_us, T]; simp [p]
    · rw [pk_un (fun q => e q.symm), T]
      rw [sg_ifm (fun q => e q.symm)]
end
theorem sg_f2 {ps : St1 → Prop} {ar hv ch tc lv wt v7 k7 t12 : Int32} {o12 : Bool} {a1 a2 a3 a4 a5 a6 c7 a8 : Nat → Int32} (g1 : ∀ m, m < 15 → a1 m = sg_kT m) (hc7 : sg_bt ch 7 = false) (h7 : c7 7 = v7)
    (hF : ∀ kt ov a7 a9 a10, sg_A7 ch c7 a8 15 a7 → sg_R hv v7 k7 o12 15 kt ov a9 → sg_T hv t12 15 a10 → ∃ fu : Nat, wX_finish_141 ps fu 0 (nI 15) ar hv ch kt ov tc lv wt a1 a2 a3 a4 a5 a6 a7 a8 a9 a10) :
    ∀ (d i : Nat), i + d = 15 → ∀ kt ov a7 a9 a10, sg_A7 ch c7 a8 i a7 → sg_R hv v7 k7 o12 i kt ov a9 → sg_T hv t12 i a10 → wX_finish_2 ps (nI 15) ar hv ch tc lv wt (d + 1) (nI i) kt ov a1 a2 a3 a4 a5 a6 a7 a8 a9 a10 := by
  intro d
  induction d with
  | zero =>
    intro i hi kt ov a7 a9 a10 hA hR hT
    rw [show i = 15 by omega] at hA hR hT
    rw [show i = 15 by omega]
    exact pk_le 15 15 (fun _ => hF _ _ _ _ _ hA hR hT) (fun z => absurd z (by omega))
  | succ d ih =>
    intro i hi kt ov a7 a9 a10 hA hR hT
    have b7 : a7 7 = v7 := by rw [hA 7 (by omega), hc7, ← h7]; simp
    refine pk_le 15 i (fun z => absurd z (by omega)) (fun _ => nm_e (sg_brA (by omega) (fun p => ?_) (fun p => ⟨sg_vp (by omega), sg_vp (by omega), nm_e ?_⟩)))
    · refine sg_f35 (by omega) g1 b7 hR hT (fun kt ov a9 a10 R T => ih (i + 1) (by omega) _ _ _ _ _ (fun m hm => ?_) R T)
      rw [hA m hm]
      by_cases e : m = i
      · rw [e, p]; simp
      · rw [sg_ifm e]
    · rw [sg_cl (by omega)]
      have ne : i ≠ 7 := fun q => by rw [q, hc7] at p; exact absurd p (by decide)
      refine sg_f35 (by omega) g1 (by rw [pk_un (fun q => ne q.symm)]; exact b7) hR hT (fun kt ov a9 a10 R T => ih (i + 1) (by omega) _ _ _ _ _ (fun m hm => ?_) R T)
      by_cases e : m = i
      · rw [e, pk_us, if_pos ⟨by omega, p⟩]
      · rw [pk_un e, hA m hm, sg_ifm e]
theorem sg_f141 {ps : St1 → Prop} {ar hv ch ov tc lv wt k7 : Int32} {a1 a2 a3 a4 a5 a6 a7 a8 a10 : Nat → Int32} (g1 : ∀ m, m < 15 → a1 m = sg_kT m) (g2 : ∀ m, m < 15 → a2 m = nI (sg_xN m))
    (hF : ∀ kt a9, sg_Q hv k7 a7 15 kt a9 → ps (nI 15, ar, hv, ch, kt, ov, tc, lv, wt, a1, a2, a3, a4, a5, a6, a7, a8, a9, a10)) :
    ∀ (d i : Nat), i + d = 15 → ∀ kt a9, sg_Q hv k7 a7 i kt a9 → wX_finish_141 ps (d + 1) (nI i) (nI 15) ar hv ch kt ov tc lv wt a1 a2 a3 a4 a5 a6 a7 a8 a9 a10 := by
  intro d
  induction d with
  | zero =>
    intro i hi kt a9 q
    rw [show i = 15 by omega] at q
    rw [show i = 15 by omega]
    exact pk_le 15 15 (fun _ => hF _ _ q) (fun z => absurd z (by omega))
  | succ d ih =>
    intro i hi kt a9 q
    obtain ⟨q0, q1, q2, q3⟩ := q
    refine pk_le 15 i (fun z => absurd z (by omega)) (fun _ => ⟨sg_vp (by omega), ?_⟩)
    rw [sg_cl (by omega), g1 i (by omega), g2 i (by omega)]
    refine br_c (fun z => ⟨sg_vp (by omega), ?_⟩) (fun z => nm_r (nI_1 i) (ih (i + 1) (by omega) _ _ ⟨q0, q1, q2, fun k => q3 ?_⟩))
    · have e := sg_k11 i (by omega) z
      subst e
      show wpX_keep _ _ (nI 6) (nI 5)
      unfold wpX_keep
      dsimp only
      refine sg_has (by omega) (fun p => br_f (by decide) ⟨sg_vp (by omega), sg_vp (by omega), nm_e (nm_e (nm_r (nI_1 6) (ih (6 + 1) (by omega) _ _ ⟨?_, ?_, ?_, fun _ => ⟨?_, fun _ => ?_⟩⟩)))⟩) (fun p => br_t rfl (nm_e (nm_r (nI_1 6) (ih (6 + 1) (by omega) _ _ ⟨?_, ?_, q2, fun _ => ⟨?_, fun y => ?_⟩⟩))))
      · rw [sg_set kt (by omega) (by omega), q0]; rfl
      · rw [sg_set kt (by omega) (by omega), q1]; rfl
      · rw [sg_cl (by omega), pk_un (by omega)]; exact q2
      · rw [sg_set kt (by omega) (by omega), p]; simp
      · rw [sg_cl (by omega), pk_us, sg_cl (by omega)]
      · rw [sg_clr kt (by omega) (by omega), q0]; rfl
      · rw [sg_clr kt (by omega) (by omega), q1]; rfl
      · rw [sg_clr kt (by omega) (by omega), p]; simp
      · rw [p] at y; exact absurd y (by decide)
    · have : i ≠ 6 := fun q => z (by rw [q]; rfl)
      omega
theorem sg_c154 {ps : Int32 → St1 → Prop} {H : Nat → Bool} {ar hv ch kt ov tc lv wt : Int32} {a1 a2 a3 a4 a5 a6 a7 a8 a9 a10 : Nat → Int32} (hH : ∀ m, m < 15 → sg_bt hv m = H m) (hF : ps (nI (sg_cnt H 15)) (nI 15, ar, hv, ch, kt, ov, tc, lv, wt, a1, a2, a3, a4, a5, a6, a7, a8, a9, a10)) :
    ∀ (d i : Nat), i + d = 15 → wX_commit_154 ps (nI 15) ar hv ch kt ov tc lv wt a1 a2 a3 a4 a5 a6 a7 a8 a9 a10 (d + 1) (nI (sg_cnt H i)) (nI i) := by
  intro d
  induction d with
  | zero =>
    intro i hi
    rw [show i = 15 by omega]
    exact pk_le 15 15 (fun _ => hF) (fun z => absurd z (by omega))
  | succ d ih =>
    intro i hi
    have e := ih (i + 1) (by omega)
    refine pk_le 15 i (fun z => absurd z (by omega)) (fun _ => sg_brT (by omega) (fun p => nm_r (nI_1 i) ?_) (fun p => nm_r (nI_1 _) (nm_r (nI_1 i) ?_)))
    · rw [sg_cnt, ← hH i (by omega), p] at e
      exact e
    · rw [sg_cnt, ← hH i (by omega), p] at e
      exact e
def sg_Res (H C : Nat → Bool) (V O : Nat → Int32) (ov : Int32) (k7 t12 : Int32) (hv' kt' ov' : Int32) (a7' a9' a10' : Nat → Int32) : Prop :=
  (∀ m, m < 15 → sg_bt hv' m = H m) ∧ (∀ m, m < 15 → H m = true → a7' m = V m) ∧ (∀ m, m < 15 → sg_isC (sg_kT m) = true → a7' m = sg_w C V O m) ∧
  (sg_bt kt' 0 = false ∧ sg_bt kt' 1 = false ∧ sg_bt kt' 6 = H 5 ∧ (H 5 = true → a9' 6 = V 5)) ∧ (a9' 7 = if H 7 = true then V 7 else k7) ∧ (sg_bt ov' 12 = (sg_bt ov 12 || H 12)) ∧ (a10' 12 = if H 12 = true then t12 + 1 else t12)
theorem sg_c146 {H C : Nat → Bool} {V O : Nat → Int32} {bz : Int32} {ps : Int32 → St1 → Prop} {ks : Nat → Bool} {ar hv ch kt ov tc lv wt : Int32} {a1 a2 a3 a4 a5 a6 a7 a8 a9 a10 : Nat → Int32} (G : sg_G bz a1 a2 a3 a4 a5 a6) (S : sg_Spec H C V O bz kt ov a9)
    (I : sg_Inv H C V O ks a6 (sg_D 24 0) hv ch wt a7 a8)
    (hF : ∀ kt' ov' a7' a9' a10', sg_Res H C V O ov (a9 7) (a10 12) hv kt' ov' a7' a9' a10' → ps (nI (sg_cnt H 15)) (nI 15, ar, hv, ch, kt', ov', tc, lv, wt, a1, a2, a3, a4, a5, a6, a7', a8, a9', a10')) : wX_commit_146 ps (nI 15) ar hv ch kt ov tc lv wt a1 a2 a3 a4 a5 a6 a7 a8 a9 a10 := by
  have i1 : ∀ m, m < 15 → sg_bt hv m = H m ∧ sg_bt ch m = C m ∧ (H m = true → a7 m = V m) ∧ (C m = true → a8 m = V m) := fun m hm => (I m hm).1 (sg_Dall hm)
  have c7 : sg_bt ch 7 = false := by rw [(i1 7 (by omega)).2.1]; exact S.2.2.2.2.2.2.2.1.2.2
  unfold wX_commit_146 wpX_finish
  dsimp only
  refine ⟨16, sg_f2 (v7 := a7 7) (k7 := a9 7) (t12 := a10 12) (o12 := sg_bt ov 12) G.1 c7 rfl (fun kt' ov' a7' a9' a10' hA hR hT => ⟨16, sg_f141 (k7 := a9' 7) G.1 G.2.1 (fun kt'' a9'' hQ => ⟨16, sg_c154 (fun m hm => (i1 m hm).1) (hF _ _ _ _ _ ?res) 15 0 (by omega)⟩) 15 0 (by omega) kt' a9' ?qq⟩) 15 0 (by omega) _ _ _ _ _ ?aa ?rr ?tt⟩
  case res =>
    show sg_Res H C V O ov (a9 7) (a10 12) hv kt'' ov' a7' a9'' a10'
    obtain ⟨q0, q1, q2, q3⟩ := hQ
    obtain ⟨q4, q5⟩ := q3 (by omega)
    obtain ⟨-, -, r3, r4⟩ := hR
    have hA' : ∀ m, m < 15 → a7' m = if C m = true then a8 m else a7 m := by
      intro m hm
      rw [hA m hm, (i1 m hm).2.1]; simp [hm]
    have hV : ∀ m, m < 15 → H m = true → a7' m = V m := by
      intro m hm hh
      rw [hA' m hm]
      split
      · rename_i hc; exact (i1 m hm).2.2.2 hc
      · exact (i1 m hm).2.2.1 hh
    refine ⟨fun m hm => (i1 m hm).1, hV, fun m hm hk => ?_, ⟨q0, q1, ?_, fun z => ?_⟩, ?_, ?_, ?_⟩
    · rw [hA' m hm]
      unfold sg_w
      split
      · rename_i hc; exact (i1 m hm).2.2.2 hc
      · exact (I m hm).2.2 hk
    · rw [q4, (i1 5 (by omega)).1]
    · rw [q5 (by rw [(i1 5 (by omega)).1]; exact z)]; exact hV 5 (by omega) z
    · rw [q2, r4, (i1 7 (by omega)).1]
      cases hh : H 7
      · simp
      · simp [(i1 7 (by omega)).2.2.1 hh]
    · rw [r3, (i1 12 (by omega)).1]; simp
    · unfold sg_T at hT
      rw [hT, (i1 12 (by omega)).1]; simp
  case qq => exact ⟨hR.1 (by omega), hR.2.1 (by omega), rfl, fun z => absurd z (by omega)⟩
  case aa => intro m hm; simp
  case rr => exact ⟨fun z => absurd z (by omega), fun z => absurd z (by omega), by simp, by simp⟩
  case tt => unfold sg_T; simp
end
section
def sg_pT (n : Nat) : Int32 := match n with
  | 2 => 16 | 3 => 1 | 4 => 10 | 5 => 4 | 7 => 1 | 8 => 32 | 9 => 256 | 10 => 4 | 11 => 2 | 12 => 2048 | 13 => 2049 | 14 => 1540 | _ => 0
/-- the parts of every node -/
def sg_PO (pt : Nat → Int32) (a1 a2 a3 a4 : Nat → Int32) : Prop := ∀ (ψ : Int32 → Prop) (nc ar hv ch kt ov tc lv wt : Int32) (a5 a6 a7 a8 a9 a10 : Nat → Int32) (n : Nat), n < 15 → ψ (pt n) → wpX_partsOf ψ (nc, ar, hv, ch, kt, ov, tc, lv, wt, a1, a2, a3, a4, a5, a6, a7, a8, a9, a10) (nI n)
section
variable {ψ : Int32 → Prop} {nc ar hv ch kt ov tc lv wt : Int32} {a1 a2 a3 a4 a5 a6 a7 a8 a9 a10 : Nat → Int32} {n : Nat}
theorem sg_p0 (hn : n < 24) (hk : a1 n = 0 ∨ a1 n = 11) (h : ψ 0) : wpX_partsOf ψ (nc, ar, hv, ch, kt, ov, tc, lv, wt, a1, a2, a3, a4, a5, a6, a7, a8, a9, a10) (nI n) := by
  have e := sg_cl hn
  unfold wpX_partsOf
  dsimp only
  rw [e]
  rcases hk with hk | hk <;> rw [hk]
  · exact ⟨sg_vp hn, nm_e (br_t rfl h)⟩
  · exact ⟨sg_vp hn, nm_e (br_f (by decide) (br_t rfl h))⟩
theorem sg_p4 {x : Nat} (hn : n < 24) (hx : x < 24) (hk : a1 n = 4) (hX : a2 n = nI x) (h : ψ ((1 : Int32) <<< (nI x &&& 31))) : wpX_partsOf ψ (nc, ar, hv, ch, kt, ov, tc, lv, wt, a1, a2, a3, a4, a5, a6, a7, a8, a9, a10) (nI n) := by
  have e := sg_cl hn
  unfold wpX_partsOf
  dsimp only
  rw [e, hk, hX]
  exact ⟨sg_vp hn, nm_e (br_f (by decide) (br_f (by decide) (br_t rfl ⟨sg_vp hn, br_t (nI_pos' (by omega)) ⟨sg_vp hn, h⟩⟩)))⟩
theorem sg_p4m (hn : n < 24) (hk : a1 n = 4) (hX : a2 n = -1) (h : ψ 0) : wpX_partsOf ψ (nc, ar, hv, ch, kt, ov, tc, lv, wt, a1, a2, a3, a4, a5, a6, a7, a8, a9, a10) (nI n) := by
  have e := sg_cl hn
  unfold wpX_partsOf
  dsimp only
  rw [e, hk, hX]
  exact ⟨sg_vp hn, nm_e (br_f (by decide) (br_f (by decide) (br_t rfl ⟨sg_vp hn, br_f (by decide) h⟩)))⟩
theorem sg_p10 (hn : n < 24) (hk : a1 n = 10) (h : ψ (((1 : Int32) <<< (a3 n &&& 31)) ||| ((1 : Int32) <<< (a4 n &&& 31)))) : wpX_partsOf ψ (nc, ar, hv, ch, kt, ov, tc, lv, wt, a1, a2, a3, a4, a5, a6, a7, a8, a9, a10) (nI n) := by
  have e := sg_cl hn
  unfold wpX_partsOf
  dsimp only
  rw [e, hk]
  exact ⟨sg_vp hn, nm_e (br_f (by decide) (br_f (by decide) (br_f (by decide) (br_t rfl ⟨sg_vp hn, sg_vp hn, h⟩))))⟩
theorem sg_p3 (hn : n < 24) (hk : a1 n = 3) (h : ψ (((1 : Int32) <<< (a2 n &&& 31)) ||| ((1 : Int32) <<< (a3 n &&& 31)))) : wpX_partsOf ψ (nc, ar, hv, ch, kt, ov, tc, lv, wt, a1, a2, a3, a4, a5, a6, a7, a8, a9, a10) (nI n) := by
  have e := sg_cl hn
  unfold wpX_partsOf
  dsimp only
  rw [e, hk]
  refine ⟨sg_vp hn, nm_e (br_f (by decide) (br_f (by decide) (br_f (by decide) (br_f (by decide) ⟨sg_vp hn, nm_e (br_t rfl ?_)⟩))))⟩
  unfold wX_partsOf_90
  rw [e]
  exact ⟨sg_vp hn, nm_e (br_f (by decide) h)⟩
theorem sg_p13 (hn : n < 24) (hk : a1 n = 13) (h : ψ (((1 : Int32) <<< (a2 n &&& 31)) ||| (((1 : Int32) <<< (a3 n &&& 31)) ||| ((1 : Int32) <<< (a4 n &&& 31))))) : wpX_partsOf ψ (nc, ar, hv, ch, kt, ov, tc, lv, wt, a1, a2, a3, a4, a5, a6, a7, a8, a9, a10) (nI n) := by
  have e := sg_cl hn
  unfold wpX_partsOf
  dsimp only
  rw [e, hk]
  refine ⟨sg_vp hn, nm_e (br_f (by decide) (br_f (by decide) (br_f (by decide) (br_f (by decide) ⟨sg_vp hn, nm_e (br_f (by decide) (br_f (by decide) ?_))⟩))))⟩
  unfold wX_partsOf_101
  rw [e]
  exact br_t rfl ⟨sg_vp hn, sg_vp hn, nm_e h⟩
theorem sg_p1 {k : Int32} (hn : n < 24) (hk : a1 n = k) (q0 : ¬ k = 0) (q11 : ¬ k = 11) (q4 : ¬ k = 4) (q10 : ¬ k = 10) (q3 : ¬ k = 3) (q6 : ¬ k = 6) (q13 : ¬ k = 13) (h : ψ ((1 : Int32) <<< (a2 n &&& 31))) : wpX_partsOf ψ (nc, ar, hv, ch, kt, ov, tc, lv, wt, a1, a2, a3, a4, a5, a6, a7, a8, a9, a10) (nI n) := by
  have e := sg_cl hn
  unfold wpX_partsOf
  dsimp only
  rw [e, hk]
  exact ⟨sg_vp hn, nm_e (br_f q0 (br_f q11 (br_f q4 (br_f q10 ⟨sg_vp hn, nm_e (br_f q3 (br_f q6 (br_f q13 h)))⟩))))⟩
end
theorem sg_PO_of {pt a1 a2 a3 a4 : Nat → Int32} (hpt : ∀ m, m ≠ 2 → pt m = sg_pT m) (g1 : ∀ m, m < 15 → a1 m = sg_kT m) (g2 : ∀ m, m < 15 → m ≠ 2 → a2 m = nI (sg_xN m)) (h2 : (a2 2 = nI 4 ∧ pt 2 = 16) ∨ (a2 2 = -1 ∧ pt 2 = 0))
    (y4 : a3 4 = nI 3) (y13 : a3 13 = nI 11) (y14 : a3 14 = nI 10) (z13 : a4 13 = nI 0) (z14 : a4 14 = nI 2) : sg_PO pt a1 a2 a3 a4 := by
  intro ψ nc ar hv ch kt ov tc lv wt a5 a6 a7 a8 a9 a10 n hn h
  have hc : n = 2 ∨ n = 0 ∨ n = 1 ∨ n = 3 ∨ n = 4 ∨ n = 5 ∨ n = 6 ∨ n = 7 ∨ n = 8 ∨ n = 9 ∨ n = 10 ∨ n = 11 ∨ n = 12 ∨ n = 13 ∨ n = 14 := by omega
  rcases hc with e | hc
  · subst e
    rcases h2 with ⟨h2, e⟩ | ⟨h2, e⟩ <;> rw [e] at h
    · exact sg_p4 (by omega) (show 4 < 24 by omega) (g1 2 (by omega)) h2 h
    · exact sg_p4m (by omega) (g1 2 (by omega)) h2 h
  · rw [hpt n (by omega)] at h
    have x := g2 n hn (by omega)
    rcases hc with e | e | e | e | e | e | e | e | e | e | e | e | e | e <;> subst e
    · exact sg_p0 (by omega) (Or.inl (g1 0 (by omega))) h
    · exact sg_p0 (by omega) (Or.inl (g1 1 (by omega))) h
    · exact sg_p1 (by omega) (g1 3 (by omega)) (by decide) (by decide) (by decide) (by decide) (by decide) (by decide) (by decide) (by rw [x]; exact h)
    · exact sg_p3 (by omega) (g1 4 (by omega)) (by rw [x, y4]; exact h)
    · exact sg_p1 (by omega) (g1 5 (by omega)) (by decide) (by decide) (by decide) (by decide) (by decide) (by decide) (by decide) (by rw [x]; exact h)
    · exact sg_p0 (by omega) (Or.inr (g1 6 (by omega))) h
    · exact sg_p1 (by omega) (g1 7 (by omega)) (by decide) (by decide) (by decide) (by decide) (by decide) (by decide) (by decide) (by rw [x]; exact h)
    · exact sg_p1 (by omega) (g1 8 (by omega)) (by decide) (by decide) (by decide) (by decide) (by decide) (by decide) (by decide) (by rw [x]; exact h)
    · exact sg_p4 (by omega) (show 8 < 24 by omega) (g1 9 (by omega)) x h
    · exact sg_p1 (by omega) (g1 10 (by omega)) (by decide) (by decide) (by decide) (by decide) (by decide) (by decide) (by decide) (by rw [x]; exact h)
    · exact sg_p1 (by omega) (g1 11 (by omega)) (by decide) (by decide) (by decide) (by decide) (by decide) (by decide) (by decide) (by rw [x]; exact h)
    · exact sg_p1 (by omega) (g1 12 (by omega)) (by decide) (by decide) (by decide) (by decide) (by decide) (by decide) (by decide) (by rw [x]; exact h)
    · exact sg_p10 (by omega) (g1 13 (by omega)) (by rw [y13, z13]; exact h)
    · exact sg_p13 (by omega) (g1 14 (by omega)) (by rw [x, y14, z14]; exact h)
/-! heights -/
def sg_ms (pr : Int32) (a5 : Nat → Int32) : Nat → Int32
  | 0 => 0
  | n + 1 => if sg_bt pr n = false then sg_ms pr a5 n else if a5 n < sg_ms pr a5 n then sg_ms pr a5 n else a5 n + 1
theorem sg_r11 {ps : Int32 → St1 → Prop} {ar hv ch kt ov tc lv wt pr : Int32} {a1 a2 a3 a4 a5 a6 a7 a8 a9 a10 : Nat → Int32} {n : Nat} (hn : n < 15)
    (h0 : sg_ms pr a5 15 ≤ a5 n → ps 0 (nI 15, ar, hv, ch, kt, ov, tc, lv, wt, a1, a2, a3, a4, upd a5 n (sg_ms pr a5 15).toInt8.toInt32, a6, a7, a8, a9, a10)) (h1 : ¬ sg_ms pr a5 15 ≤ a5 n → ps 1 (nI 15, ar, hv, ch, kt, ov, tc, lv, wt, a1, a2, a3, a4, upd a5 n (sg_ms pr a5 15).toInt8.toInt32, a6, a7, a8, a9, a10)) :
    ∀ (d i : Nat), i + d = 15 → wX_raise_11 ps (nI n) pr (nI 15) ar hv ch kt ov tc lv wt a1 a2 a3 a4 a5 a6 a7 a8 a9 a10 (d + 1) (sg_ms pr a5 i) (nI i) := by
  intro d
  induction d with
  | zero =>
    intro i hi
    rw [show i = 15 by omega]
    refine pk_le 15 15 (fun _ => ⟨sg_vp (by omega), ?_⟩) (fun z => absurd z (by omega))
    unfold wX_raise_71
    rw [sg_cl (by omega)]
    exact br_c (fun z => ⟨sg_vp (by omega), nm_e ⟨rfl, h0 z⟩⟩) (fun z => ⟨sg_vp (by omega), nm_e ⟨rfl, h1 z⟩⟩)
  | succ d ih =>
    intro i hi
    have e := ih (i + 1) (by omega)
    refine pk_le 15 i (fun z => absurd z (by omega)) (fun _ => sg_brT (by omega) (fun p => nm_r (nI_1 i) ?_) (fun p => ⟨sg_vp (by omega), ?_⟩))
    · rw [sg_ms, p] at e
      exact e
    · rw [sg_cl (by omega)]
      refine br_c (fun z => nm_r (nI_1 i) ?_) (fun z => ⟨sg_vp (by omega), nm_e (nm_r (nI_1 i) ?_)⟩)
      · rw [sg_ms, p, if_neg (by decide), if_pos z] at e
        exact e
      · rw [sg_ms, p, if_neg (by decide), if_neg z] at e
        exact e
def sg_mix (h1 h0 : Nat → Nat) (i : Nat) : Nat → Int32 := fun j => if j < i then nI (h1 j) else if j < 15 then nI (h0 j) else 0
def sg_fl (h1 h0 : Nat → Nat) : Nat → Int32
  | 0 => 0
  | n + 1 => if nI (h1 n) ≤ nI (h0 n) then sg_fl h1 h0 n else 1
theorem sg_mixu {h1 h0 : Nat → Nat} {i : Nat} (hi : i < 15) : upd (sg_mix h1 h0 i) i (nI (h1 i)) = sg_mix h1 h0 (i + 1) := by
  funext j
  unfold upd sg_mix
  by_cases e : j = i
  · subst e; simp
  · by_cases k : j < i
    · have k2 : j < i + 1 := by omega
      simp [e, k, k2]
    · have k2 : ¬ j < i + 1 := by omega
      simp [e, k, k2]
theorem sg_mixn {h2 h1 h0 : Nat → Nat} : sg_mix h1 h0 15 = sg_mix h2 h1 0 := by
  funext j
  unfold sg_mix
  by_cases k : j < 15 <;> simp [k]
theorem sg_pass {ps : St1 → Prop} {J : Int32 → Int32 → Int32 → Int32 → Int32 → Int32 → Int32 → Int32 → Int32 → Int32 → (Nat → Int32) → (Nat → Int32) → (Nat → Int32) → (Nat → Int32) → (Nat → Int32) → (Nat → Int32) → (Nat → Int32) → (Nat → Int32) → (Nat → Int32) → (Nat → Int32) → Prop} {ar hv ch kt ov tc lv wt : Int32} {a1 a2 a3 a4 a6 a7 a8 a9 a10 : Nat → Int32} (P : sg_PO sg_pT a1 a2 a3 a4) {h1 h0 : Nat → Nat}
    (he : ∀ n, n < 15 → sg_ms (sg_pT n) (sg_mix h1 h0 n) 15 = nI (h1 n)) (ht : ∀ n, n < 15 → (nI (h1 n)).toInt8.toInt32 = nI (h1 n))
    (hJ : J (sg_fl h1 h0 15) (nI 15) ar hv ch kt ov tc lv wt a1 a2 a3 a4 (sg_mix h1 h0 15) a6 a7 a8 a9 a10) :
    ∀ (d i : Nat), i + d = 15 → wX_arrange_53 ps J (d + 1) (sg_fl h1 h0 i) (nI i) (nI 15) ar hv ch kt ov tc lv wt a1 a2 a3 a4 (sg_mix h1 h0 i) a6 a7 a8 a9 a10 := by
  intro d
  induction d with
  | zero =>
    intro i hi
    rw [show i = 15 by omega]
    exact pk_le 15 15 (fun _ => hJ) (fun z => absurd z (by omega))
  | succ d ih =>
    intro i hi
    have e := ih (i + 1) (by omega)
    have hi' : i < 15 := by omega
    have ev : sg_mix h1 h0 i i = nI (h0 i) := by unfold sg_mix; simp [hi']
    refine pk_le 15 i (fun z => absurd z (by omega)) (fun _ => ?_)
    unfold wpX_raise
    dsimp only
    refine P _ _ _ _ _ _ _ _ _ _ _ _ _ _ _ _ i hi' ⟨16, sg_r11 hi' (fun z => br_t rfl (nm_r (nI_1 i) ?_)) (fun z => br_f (by decide) (nm_r (nI_1 i) ?_)) 15 0 (by omega)⟩
    · rw [he i hi', ht i hi', sg_mixu hi']
      rw [he i hi', ev] at z
      rw [sg_fl, if_pos z] at e
      exact e
    · rw [he i hi', ht i hi', sg_mixu hi']
      rw [he i hi', ev] at z
      rw [sg_fl, if_neg z] at e
      exact e
/-! users -/
def sg_us : Nat → Nat → Int32
  | 0, _ => 0
  | n + 1, m => if sg_bt (sg_pT n) m = false then sg_us n m else sg_us n m ||| ((1 : Int32) <<< (nI n &&& 31))
def sg_uA (n : Nat) : Nat → Int32 := fun j => if j < 15 then sg_us n j else 0
def sg_uB (n m : Nat) : Nat → Int32 := fun j => if j < m then sg_us (n + 1) j else if j < 15 then sg_us n j else 0
theorem sg_uB0 {n : Nat} : sg_uA n = sg_uB n 0 := by
  funext j
  unfold sg_uA sg_uB
  simp
theorem sg_uBe {n : Nat} : sg_uB n 15 = sg_uA (n + 1) := by
  funext j
  unfold sg_uA sg_uB
  by_cases k : j < 15 <;> simp [k]
theorem sg_uBs {n m : Nat} (hm : m < 15) (h : sg_bt (sg_pT n) m = false) : sg_uB n m = sg_uB n (m + 1) := by
  funext j
  unfold sg_uB
  by_cases e : j = m
  · subst e; simp [hm, sg_us, h]
  · by_cases k : j < m
    · have k2 : j < m + 1 := by omega
      simp [k, k2]
    · have k2 : ¬ j < m + 1 := by omega
      simp [k, k2]
theorem sg_uBu {n m : Nat} (hm : m < 15) (h : sg_bt (sg_pT n) m = true) : upd (sg_uB n m) m ((sg_uB n m m) ||| ((1 : Int32) <<< (nI n &&& 31))) = sg_uB n (m + 1) := by
  funext j
  unfold upd
  by_cases e : j = m
  · subst e; simp [sg_uB, hm, sg_us, h]
  · unfold sg_uB
    by_cases k : j < m
    · have k2 : j < m + 1 := by omega
      simp [e, k, k2]
    · have k2 : ¬ j < m + 1 := by omega
      simp [e, k, k2]
theorem sg_a99 {ps : St1 → Prop} {J : Int32 → (Nat → Int32) → (Nat → Int32) → (Nat → Int32) → (Nat → Int32) → (Nat → Int32) → (Nat → Int32) → (Nat → Int32) → (Nat → Int32) → (Nat → Int32) → (Nat → Int32) → Prop} {ar hv ch kt ov tc lv wt : Int32} {a1 a2 a3 a4 a5 a7 a8 a9 a10 : Nat → Int32} {n : Nat}
    (hJ : J (nI (n + 1)) a1 a2 a3 a4 a5 (sg_uA (n + 1)) a7 a8 a9 a10) :
    ∀ (d i : Nat), i + d = 15 → wX_arrange_99 ps J (nI n) (sg_pT n) (nI 15) ar hv ch kt ov tc lv wt (d + 1) (nI i) a1 a2 a3 a4 a5 (sg_uB n i) a7 a8 a9 a10 := by
  intro d
  induction d with
  | zero =>
    intro i hi
    rw [show i = 15 by omega, sg_uBe]
    exact pk_le 15 15 (fun _ => nm_r (nI_1 n) hJ) (fun z => absurd z (by omega))
  | succ d ih =>
    intro i hi
    have e := ih (i + 1) (by omega)
    refine pk_le 15 i (fun z => absurd z (by omega)) (fun _ => sg_brT (by omega) (fun p => nm_r (nI_1 i) ?_) (fun p => ⟨sg_vp (by omega), sg_vp (by omega), nm_e (nm_r (nI_1 i) ?_)⟩))
    · rw [← sg_uBs (by omega) p] at e
      exact e
    · rw [sg_cl (by omega), sg_uBu (by omega) p]
      exact e
theorem sg_a82 {ps : St1 → Prop} {ar hv ch kt ov tc lv wt : Int32} {a1 a2 a3 a4 a5 a7 a8 a9 a10 : Nat → Int32} (P : sg_PO sg_pT a1 a2 a3 a4) (hF : ps (nI 15, ar, hv, ch, kt, ov, tc, lv, wt, a1, a2, a3, a4, a5, sg_uA 15, a7, a8, a9, a10)) :
    ∀ (d n : Nat), n + d = 15 → wX_arrange_82 ps (nI 15) ar hv ch kt ov tc lv wt (d + 1) (nI n) a1 a2 a3 a4 a5 (sg_uA n) a7 a8 a9 a10 := by
  intro d
  induction d with
  | zero =>
    intro n hn
    rw [show n = 15 by omega]
    exact pk_le 15 15 (fun _ => hF) (fun z => absurd z (by omega))
  | succ d ih =>
    intro n hn
    have e := ih (n + 1) (by omega)
    refine pk_le 15 n (fun z => absurd z (by omega)) (fun _ => P _ _ _ _ _ _ _ _ _ _ _ _ _ _ _ _ n (by omega) ⟨16, ?_⟩)
    rw [sg_uB0]
    exact sg_a99 e 15 0 (by omega)
def sg_g1 (n : Nat) : Nat := match n with
  | 2 => 1 | 3 => 1 | 4 => 2 | 5 => 2 | 7 => 1 | 8 => 3 | 9 => 4 | 10 => 2 | 11 => 1 | 12 => 2 | 13 => 2 | 14 => 5 | _ => 0
def sg_Z : Nat → Int32 := fun _ => 0
theorem sg_Zu (k : Nat) : upd sg_Z k 0 = sg_Z := by
  funext j
  unfold upd sg_Z
  split <;> rfl
theorem sg_Zm {h : Nat → Nat} : sg_Z = sg_mix h (fun _ => 0) 0 := by
  funext j
  unfold sg_Z sg_mix
  by_cases k : j < 15 <;> simp [k, nI_0]
theorem sg_ZA : sg_Z = sg_uA 0 := by
  funext j
  unfold sg_Z sg_uA
  simp [sg_us]
theorem sg_e1 : ∀ n, n < 15 → sg_ms (sg_pT n) (sg_mix sg_g1 (fun _ => 0) n) 15 = nI (sg_g1 n) := by decide +kernel
theorem sg_e2 : ∀ n, n < 15 → sg_ms (sg_pT n) (sg_mix sg_hN sg_g1 n) 15 = nI (sg_hN n) := by decide +kernel
theorem sg_e3 : ∀ n, n < 15 → sg_ms (sg_pT n) (sg_mix sg_hN sg_hN n) 15 = nI (sg_hN n) := by decide +kernel
theorem sg_t1 : ∀ n, n < 15 → (nI (sg_g1 n)).toInt8.toInt32 = nI (sg_g1 n) := by decide +kernel
theorem sg_t2 : ∀ n, n < 15 → (nI (sg_hN n)).toInt8.toInt32 = nI (sg_hN n) := by decide +kernel
theorem sg_uF : ∀ m, m < 15 → sg_uA 15 m = sg_uT m := by decide +kernel
theorem sg_fl1 : ¬ sg_fl sg_g1 (fun _ => 0) 15 = 0 := by decide +kernel
theorem sg_fl2 : ¬ sg_fl sg_hN sg_g1 15 = 0 := by decide +kernel
theorem sg_fl3 : sg_fl sg_hN sg_hN 15 = 0 := by decide +kernel
theorem sg_a45 {ps : St1 → Prop} {ar hv ch kt ov tc lv wt : Int32} {a1 a2 a3 a4 a7 a8 a9 a10 : Nat → Int32} (P : sg_PO sg_pT a1 a2 a3 a4) (hF : ps (nI 15, ar, hv, ch, kt, ov, tc, lv, wt, a1, a2, a3, a4, sg_mix sg_hN sg_hN 15, sg_uA 15, a7, a8, a9, a10)) :
    ∃ fu : Nat, wX_arrange_45 ps fu 1 (nI 15) ar hv ch kt ov tc lv wt a1 a2 a3 a4 sg_Z sg_Z a7 a8 a9 a10 := by
  refine ⟨4, br_f (by decide) ⟨16, ?_⟩⟩
  rw [show wX_arrange_53 ps (wX_arrange_45 ps 3) 16 0 0 (nI 15) ar hv ch kt ov tc lv wt a1 a2 a3 a4 sg_Z sg_Z a7 a8 a9 a10 = wX_arrange_53 ps (wX_arrange_45 ps 3) 16 0 0 (nI 15) ar hv ch kt ov tc lv wt a1 a2 a3 a4 (sg_mix sg_g1 (fun _ => 0) 0) sg_Z a7 a8 a9 a10 from by rw [← sg_Zm]]
  refine sg_pass P sg_e1 sg_t1 (br_f sg_fl1 ⟨16, ?_⟩) 15 0 (by omega)
  rw [sg_mixn (h2 := sg_hN)]
  refine sg_pass P sg_e2 sg_t2 (br_f sg_fl2 ⟨16, ?_⟩) 15 0 (by omega)
  rw [sg_mixn (h2 := sg_hN)]
  refine sg_pass P sg_e3 sg_t2 (br_t sg_fl3 ⟨16, ?_⟩) 15 0 (by omega)
  rw [sg_ZA]
  exact sg_a82 P hF 15 0 (by omega)
theorem sg_a15 {ps : St1 → Prop} {ar hv ch kt ov tc lv wt : Int32} {a1 a2 a3 a4 a7 a8 a9 a10 : Nat → Int32} (P : sg_PO sg_pT a1 a2 a3 a4) (hF : ps (nI 15, ar, hv, ch, kt, ov, tc, lv, wt, a1, a2, a3, a4, sg_mix sg_hN sg_hN 15, sg_uA 15, a7, a8, a9, a10)) :
    ∀ (d i : Nat), i + d = 15 → wX_arrange_15 ps (nI 15) ar hv ch kt ov tc lv wt (d + 1) (nI i) a1 a2 a3 a4 sg_Z sg_Z a7 a8 a9 a10 := by
  intro d
  induction d with
  | zero =>
    intro i hi
    rw [show i = 15 by omega]
    exact pk_le 15 15 (fun _ => sg_a45 P hF) (fun z => absurd z (by omega))
  | succ d ih =>
    intro i hi
    exact pk_le 15 i (fun z => absurd z (by omega)) (fun _ => ⟨sg_vp (by omega), nm_r (sg_Zu _) ⟨sg_vp (by omega), nm_r (sg_Zu _) (nm_r (nI_1 i) (ih (i + 1) (by omega)))⟩⟩)
/-- arranged, or not yet with heights and users all 0 -/
def sg_Ar (ar : Int32) (a5 a6 : Nat → Int32) : Prop := (ar = 0 ∧ a5 = sg_Z ∧ a6 = sg_Z) ∨ (ar = 1 ∧ (∀ m, m < 15 → a5 m = nI (sg_hN m)) ∧ (∀ m, m < 15 → a6 m = sg_uT m))
theorem sg_arr {ps : St1 → Prop} {ar hv ch kt ov tc lv wt : Int32} {a1 a2 a3 a4 a5 a6 a7 a8 a9 a10 : Nat → Int32} (P : sg_PO sg_pT a1 a2 a3 a4) (hA : sg_Ar ar a5 a6)
    (hF : ∀ a5 a6, (∀ m, m < 15 → a5 m = nI (sg_hN m)) → (∀ m, m < 15 → a6 m = sg_uT m) → ps (nI 15, 1, hv, ch, kt, ov, tc, lv, wt, a1, a2, a3, a4, a5, a6, a7, a8, a9, a10)) : wpX_arrange ps (nI 15, ar, hv, ch, kt, ov, tc, lv, wt, a1, a2, a3, a4, a5, a6, a7, a8, a9, a10) := by
  rcases hA with ⟨r, e5, e6⟩ | ⟨r, e5, e6⟩
  · subst r e5 e6
    exact br_t rfl ⟨16, sg_a15 P (hF _ _ (fun m hm => by unfold sg_mix; simp [hm]) sg_uF) 15 0 (by omega)⟩
  · subst r
    exact br_f (by decide) (hF _ _ e5 e6)
end
section
/-! the way down from a node -/
def sg_sc (pt : Nat → Int32) : Nat → Int32 → Int32
  | 0, s => s
  | n + 1, s => if sg_bt (sg_sc pt n s) n = false then sg_sc pt n s else sg_sc pt n s ||| pt n
def sg_run (pt : Nat → Int32) : Nat → Int32 → Int32 → Option Int32
  | 0, _, _ => none
  | f + 1, s, b => if s = b then some s else sg_run pt f (sg_sc pt 15 s) s
theorem sg_b18 {ps : Int32 → Prop} {J : Int32 → Int32 → Prop} {pt : Nat → Int32} {ar hv ch kt ov tc lv wt x3 s : Int32} {a1 a2 a3 a4 a5 a6 a7 a8 a9 a10 : Nat → Int32} (P : sg_PO pt a1 a2 a3 a4) (hJ : J (sg_sc pt 15 s) x3) :
    ∀ (d i : Nat), i + d = 15 → wX_below_18 ps J x3 (nI 15) ar hv ch kt ov tc lv wt a1 a2 a3 a4 a5 a6 a7 a8 a9 a10 (d + 1) (sg_sc pt i s) (nI i) := by
  intro d
  induction d with
  | zero =>
    intro i hi
    rw [show i = 15 by omega]
    exact pk_le 15 15 (fun _ => hJ) (fun z => absurd z (by omega))
  | succ d ih =>
    intro i hi
    have e := ih (i + 1) (by omega)
    refine pk_le 15 i (fun z => absurd z (by omega)) (fun _ => sg_brT (by omega) (fun p => nm_r (nI_1 i) ?_) (fun p => P _ _ _ _ _ _ _ _ _ _ _ _ _ _ _ _ i (by omega) (nm_e (nm_r (nI_1 i) ?_))))
    · rw [sg_sc, p] at e
      exact e
    · rw [sg_sc, p, if_neg (by decide)] at e
      exact e
theorem sg_b8 {ps : Int32 → Prop} {pt : Nat → Int32} {ar hv ch kt ov tc lv wt : Int32} {a1 a2 a3 a4 a5 a6 a7 a8 a9 a10 : Nat → Int32} (P : sg_PO pt a1 a2 a3 a4) {r : Int32} (h : ps r) :
    ∀ (f : Nat) (s b : Int32), sg_run pt f s b = some r → wX_below_8 ps (nI 15) ar hv ch kt ov tc lv wt a1 a2 a3 a4 a5 a6 a7 a8 a9 a10 f s b := by
  intro f
  induction f with
  | zero => intro s b z; exact absurd z (by simp [sg_run])
  | succ f ih =>
    intro s b z
    rw [sg_run] at z
    refine br_c (fun q => ?_) (fun q => ⟨16, ?_⟩)
    · rw [if_pos q] at z
      rw [Option.some.inj z]
      exact h
    · rw [if_neg q] at z
      exact sg_b18 P (ih _ _ z) 15 0 (by omega)
theorem sg_below {ps : Int32 → Prop} {pt : Nat → Int32} {ar hv ch kt ov tc lv wt : Int32} {a1 a2 a3 a4 a5 a6 a7 a8 a9 a10 : Nat → Int32} (P : sg_PO pt a1 a2 a3 a4) {n : Nat} (hn : n < 15) {r : Int32} (hr : sg_run pt 20 (pt n) 0 = some r) (h : ps r) : wpX_below ps (nI 15, ar, hv, ch, kt, ov, tc, lv, wt, a1, a2, a3, a4, a5, a6, a7, a8, a9, a10) (nI n) := by
  unfold wpX_below
  dsimp only
  exact P _ _ _ _ _ _ _ _ _ _ _ _ _ _ _ _ n hn ⟨20, sg_b8 P h 20 _ _ hr⟩
theorem sg_leads {ps : Int32 → Prop} {pt : Nat → Int32} {ar hv ch kt ov tc lv wt : Int32} {a1 a2 a3 a4 a5 a6 a7 a8 a9 a10 : Nat → Int32} (P : sg_PO pt a1 a2 a3 a4) {n m : Nat} (hn : n < 15) (hm : m < 15) {r : Int32} (hr : sg_run pt 20 (pt n) 0 = some r) {q : Int32} (hq : q = if sg_bt r m = true then 1 else 0) (h : ps q) : wpX_leads ps (nI 15, ar, hv, ch, kt, ov, tc, lv, wt, a1, a2, a3, a4, a5, a6, a7, a8, a9, a10) (nI n) (nI m) := by
  unfold wpX_leads
  dsimp only
  refine sg_isNode rfl hn (by omega) (br_f (by decide) (sg_isNode rfl hm (by omega) (br_f (by decide) (sg_below P hn hr (sg_brT (by omega) (fun z => ?_) (fun z => ?_))))))
  · rw [z] at hq; rw [hq] at h; exact h
  · rw [z] at hq; rw [hq] at h; exact h
theorem sg_reaches {ps : Int32 → Prop} {pt : Nat → Int32} {ar hv ch kt ov tc lv wt : Int32} {a1 a2 a3 a4 a5 a6 a7 a8 a9 a10 : Nat → Int32} (P : sg_PO pt a1 a2 a3 a4) {n m : Nat} (hn : n < 15) (hm : m < 15) (hnm : n ≠ m) {r : Int32} (hr : sg_run pt 20 (pt n) 0 = some r) {q : Int32} (hq : q = if sg_bt r m = true then 1 else 0) (h : ps q) : wpX_reaches ps (nI 15, ar, hv, ch, kt, ov, tc, lv, wt, a1, a2, a3, a4, a5, a6, a7, a8, a9, a10) (nI n) (nI m) := by
  unfold wpX_reaches
  dsimp only
  refine br_f (fun z => hnm ((nI_eq (by omega) (by omega)).mp z)) (sg_below P hn hr (sg_brT (by omega) (fun z => ?_) (fun z => ?_)))
  · rw [z] at hq; rw [hq] at h; exact h
  · rw [z] at hq; rw [hq] at h; exact h
/-! nodes -/
def sg_pre (f : Nat → Int32) (k : Nat) : Nat → Int32 := fun j => if j < k then f j else 0
theorem sg_pre_u {f : Nat → Int32} {k i : Nat} {x : Int32} (hi : i = k) (hx : x = f k) : upd (sg_pre f k) i x = sg_pre f (k + 1) := by
  subst hi hx
  funext j
  unfold upd sg_pre
  by_cases e : j = i
  · subst e; simp
  · by_cases k : j < i
    · have k2 : j < i + 1 := by omega
      simp [e, k, k2]
    · have k2 : ¬ j < i + 1 := by omega
      simp [e, k, k2]
theorem sg_pre_0 {f : Nat → Int32} : sg_pre f 0 = sg_Z := by
  funext j
  unfold sg_pre sg_Z
  simp
theorem sg_upup {f : Nat → Int32} {k : Nat} {x y : Int32} : upd (upd f k x) k y = upd f k y := by
  funext j
  unfold upd
  split <;> rfl
def sg_x0 (n : Nat) : Int32 := if n = 2 then -1 else nI (sg_xN n)
def sg_yT (bz st : Int32) (n : Nat) : Int32 := match n with
  | 2 => st | 3 => 2 | 4 => 3 | 8 => 10 | 10 => bz | 11 => 9 | 13 => 11 | 14 => 10 | _ => 0
def sg_zT (n : Nat) : Int32 := match n with
  | 10 => 1 | 14 => 2 | _ => 0
def sg_vT (bz st : Int32) (n : Nat) : Int32 := match n with
  | 2 => st | 10 => st * bz + 1 | 14 => st | _ => 0
section
variable {post : Int32 → St1 → Prop} {bz st : Int32} {k : Nat} {p0 p1 p2 p3 : Int32}
theorem sg_forget {ps : St1 → Prop} {nc ar tc lv wt : Int32} {a1 a2 a3 a4 a5 a6 a7 a8 a9 a10 : Nat → Int32} {n : Int32} (h : ps (nc, ar, 0, 0, 0, 0, tc, lv, wt, a1, a2, a3, a4, a5, a6, a7, a8, a9, a10)) : wpX_forget ps (nc, ar, 0, 0, 0, 0, tc, lv, wt, a1, a2, a3, a4, a5, a6, a7, a8, a9, a10) n :=
  nm_e (nm_r Int32.zero_and (nm_r Int32.zero_and (nm_r Int32.zero_and (nm_r Int32.zero_and h))))
theorem sg_118e (hk : k < 15) (hC : sg_isC p0 = false) {z : Int32} (hz : z = sg_vT bz st k) (h : post (nI k) (nI (k + 1), 0, 0, 0, 0, 0, 0, 1, 0, sg_pre sg_kT (k + 1), sg_pre sg_x0 (k + 1), sg_pre (sg_yT bz st) (k + 1), sg_pre sg_zT (k + 1), sg_Z, sg_Z, sg_pre (sg_vT bz st) (k + 1), sg_Z, sg_Z, sg_Z)) : wX_node_118 post p0 (nI k) z (nI k) (nI (k + 1)) 0 0 0 0 0 0 1 0 (sg_pre sg_kT (k + 1)) (sg_pre sg_x0 (k + 1)) (sg_pre (sg_yT bz st) (k + 1)) (sg_pre sg_zT (k + 1)) sg_Z sg_Z (sg_pre (sg_vT bz st) k) sg_Z sg_Z sg_Z :=
  And.intro (sg_vp (by omega)) (nm_r (sg_pre_u (sg_cl (by omega)) hz) (sg_forget (sg_ck (fun q => absurd (hC.symm.trans q) (by decide)) (fun _ => br_t rfl h))))
theorem sg_118h (hk : k < 15) (hC : p0 = 4) {z : Int32} (hz : z = sg_vT bz st k) (h : post (nI k) (nI (k + 1), 0, 0, 0, 0, 0, 0, 1, 0, sg_pre sg_kT (k + 1), sg_pre sg_x0 (k + 1), sg_pre (sg_yT bz st) (k + 1), sg_pre sg_zT (k + 1), sg_Z, sg_Z, sg_pre (sg_vT bz st) (k + 1), sg_Z, sg_Z, sg_Z)) : wX_node_118 post p0 (nI k) z (nI k) (nI (k + 1)) 0 0 0 0 0 0 1 0 (sg_pre sg_kT (k + 1)) (sg_pre sg_x0 (k + 1)) (sg_pre (sg_yT bz st) (k + 1)) (sg_pre sg_zT (k + 1)) sg_Z sg_Z (sg_pre (sg_vT bz st) k) sg_Z sg_Z sg_Z :=
  And.intro (sg_vp (by omega)) (nm_r (sg_pre_u (sg_cl (by omega)) hz) (sg_forget (sg_ck (fun _ => br_f (by decide) (br_t hC h)) (fun q => absurd q (by rw [hC]; decide)))))
theorem sg_118c (hk : k < 15) (hC : sg_isC p0 = true) (h4 : ¬ p0 = 4) (hc : ∀ φ : Int32 → Prop, φ (sg_vT bz st k) → wpX_combined φ (nI (k + 1), 0, 0, 0, 0, 0, 0, 1, 0, sg_pre sg_kT (k + 1), sg_pre sg_x0 (k + 1), sg_pre (sg_yT bz st) (k + 1), sg_pre sg_zT (k + 1), sg_Z, sg_Z, upd (sg_pre (sg_vT bz st) k) k 0, sg_Z, sg_Z, sg_Z) (nI k) 0) (h : post (nI k) (nI (k + 1), 0, 0, 0, 0, 0, 0, 1, 0, sg_pre sg_kT (k + 1), sg_pre sg_x0 (k + 1), sg_pre (sg_yT bz st) (k + 1), sg_pre sg_zT (k + 1), sg_Z, sg_Z, sg_pre (sg_vT bz st) (k + 1), sg_Z, sg_Z, sg_Z)) : wX_node_118 post p0 (nI k) 0 (nI k) (nI (k + 1)) 0 0 0 0 0 0 1 0 (sg_pre sg_kT (k + 1)) (sg_pre sg_x0 (k + 1)) (sg_pre (sg_yT bz st) (k + 1)) (sg_pre sg_zT (k + 1)) sg_Z sg_Z (sg_pre (sg_vT bz st) k) sg_Z sg_Z sg_Z := by
  refine And.intro (sg_vp (by omega)) (nm_r (show upd (sg_pre (sg_vT bz st) k) (nI k).toNatClampNeg 0 = upd (sg_pre (sg_vT bz st) k) k 0 by rw [sg_cl (by omega)]) (sg_forget (sg_ck (fun _ => br_f (by decide) (br_f h4 (hc _ ⟨sg_vp (by omega), nm_r (e' := sg_pre (sg_vT bz st) (k + 1)) ?_ h⟩))) (fun q => absurd (hC.symm.trans q) (by decide)))))
  rw [sg_cl (by omega), sg_upup]
  exact sg_pre_u rfl rfl
theorem sg_node (hk : k < 15) (h0 : ¬ p0 < 0) (h14 : ¬ 14 < p0) (hfit : ∀ ψ : Int32 → Prop, ψ 1 → wpX_operandsFit ψ (nI k, 0, 0, 0, 0, 0, 0, 1, 0, sg_pre sg_kT k, sg_pre sg_x0 k, sg_pre (sg_yT bz st) k, sg_pre sg_zT k, sg_Z, sg_Z, sg_pre (sg_vT bz st) k, sg_Z, sg_Z, sg_Z) p0 p1 p2 p3)
    (e0 : p0.toInt8.toInt32 = sg_kT k) (e1 : p1 = sg_x0 k) (e2 : p2 = sg_yT bz st k) (e3 : p3 = sg_zT k) {z : Int32} (hz : (p0 = 4 → p2 = z) ∧ (¬ p0 = 4 → 0 = z))
    (ht : wX_node_118 post p0 (nI k) z (nI k) (nI (k + 1)) 0 0 0 0 0 0 1 0 (sg_pre sg_kT (k + 1)) (sg_pre sg_x0 (k + 1)) (sg_pre (sg_yT bz st) (k + 1)) (sg_pre sg_zT (k + 1)) sg_Z sg_Z (sg_pre (sg_vT bz st) k) sg_Z sg_Z sg_Z) : wpX_node post (nI k, 0, 0, 0, 0, 0, 0, 1, 0, sg_pre sg_kT k, sg_pre sg_x0 k, sg_pre (sg_yT bz st) k, sg_pre sg_zT k, sg_Z, sg_Z, sg_pre (sg_vT bz st) k, sg_Z, sg_Z, sg_Z) p0 p1 p2 p3 := by
  have v := sg_vp (show k < 24 by omega)
  have c := sg_cl (show k < 24 by omega)
  refine br_t (nI_lt (b := 24) (by omega) (by omega)) (br_f h0 (br_f h14 (hfit _ (br_f (by decide) (nm_r (nI_1 k) ⟨v, nm_r (sg_pre_u c e0) ⟨v, nm_r (sg_pre_u c e1) ⟨v, nm_r (sg_pre_u c e2) ⟨v, nm_r (sg_pre_u c e3) ⟨v, nm_r (sg_Zu _) ⟨v, nm_r (sg_Zu _) (br_c (fun q => ?_) (fun q => ?_))⟩⟩⟩⟩⟩⟩)))))
  · rw [hz.1 q]; exact ht
  · rw [← hz.2 q] at ht; exact ht
end
section
variable {post : Int32 → St1 → Prop} {bz st : Int32}
theorem sg_nd0 (h : post (nI 0) (nI 1, 0, 0, 0, 0, 0, 0, 1, 0, sg_pre sg_kT 1, sg_pre sg_x0 1, sg_pre (sg_yT bz st) 1, sg_pre sg_zT 1, sg_Z, sg_Z, sg_pre (sg_vT bz st) 1, sg_Z, sg_Z, sg_Z)) : wpX_node post (nI 0, 0, 0, 0, 0, 0, 0, 1, 0, sg_pre sg_kT 0, sg_pre sg_x0 0, sg_pre (sg_yT bz st) 0, sg_pre sg_zT 0, sg_Z, sg_Z, sg_pre (sg_vT bz st) 0, sg_Z, sg_Z, sg_Z) 0 0 0 0 :=
  sg_node (by omega) (by decide) (by decide) (fun ψ hψ => br_t rfl hψ) rfl rfl rfl rfl ⟨fun z => absurd z (by decide), fun _ => rfl⟩ (sg_118e (by omega) rfl rfl h)
theorem sg_nd1 (h : post (nI 1) (nI 2, 0, 0, 0, 0, 0, 0, 1, 0, sg_pre sg_kT 2, sg_pre sg_x0 2, sg_pre (sg_yT bz st) 2, sg_pre sg_zT 2, sg_Z, sg_Z, sg_pre (sg_vT bz st) 2, sg_Z, sg_Z, sg_Z)) : wpX_node post (nI 1, 0, 0, 0, 0, 0, 0, 1, 0, sg_pre sg_kT 1, sg_pre sg_x0 1, sg_pre (sg_yT bz st) 1, sg_pre sg_zT 1, sg_Z, sg_Z, sg_pre (sg_vT bz st) 1, sg_Z, sg_Z, sg_Z) 0 0 0 0 :=
  sg_node (by omega) (by decide) (by decide) (fun ψ hψ => br_t rfl hψ) rfl rfl rfl rfl ⟨fun z => absurd z (by decide), fun _ => rfl⟩ (sg_118e (by omega) rfl rfl h)
theorem sg_nd2 (h : post (nI 2) (nI 3, 0, 0, 0, 0, 0, 0, 1, 0, sg_pre sg_kT 3, sg_pre sg_x0 3, sg_pre (sg_yT bz st) 3, sg_pre sg_zT 3, sg_Z, sg_Z, sg_pre (sg_vT bz st) 3, sg_Z, sg_Z, sg_Z)) : wpX_node post (nI 2, 0, 0, 0, 0, 0, 0, 1, 0, sg_pre sg_kT 2, sg_pre sg_x0 2, sg_pre (sg_yT bz st) 2, sg_pre sg_zT 2, sg_Z, sg_Z, sg_pre (sg_vT bz st) 2, sg_Z, sg_Z, sg_Z) 4 (-1) st 0 :=
  sg_node (by omega) (by decide) (by decide) (fun ψ hψ => br_f (by decide) (br_t rfl (br_t rfl hψ))) rfl rfl rfl rfl ⟨fun _ => rfl, fun z => absurd rfl z⟩ (sg_118h (by omega) rfl rfl h)
theorem sg_nd3 (h : post (nI 3) (nI 4, 0, 0, 0, 0, 0, 0, 1, 0, sg_pre sg_kT 4, sg_pre sg_x0 4, sg_pre (sg_yT bz st) 4, sg_pre sg_zT 4, sg_Z, sg_Z, sg_pre (sg_vT bz st) 4, sg_Z, sg_Z, sg_Z)) : wpX_node post (nI 3, 0, 0, 0, 0, 0, 0, 1, 0, sg_pre sg_kT 3, sg_pre sg_x0 3, sg_pre (sg_yT bz st) 3, sg_pre sg_zT 3, sg_Z, sg_Z, sg_pre (sg_vT bz st) 3, sg_Z, sg_Z, sg_Z) 5 0 2 0 :=
  sg_node (by omega) (by decide) (by decide) (fun ψ hψ => br_f (by decide) (br_f (by decide) (br_f (by decide) (br_t rfl (sg_ev_t (c := 3) (p := 0) rfl (by omega) (by omega) rfl (br_f (by decide) (sg_ce_t (c := 3) (p := 2) rfl (by omega) (by omega) rfl (br_f (by decide) hψ)))))))) rfl rfl rfl rfl ⟨fun z => absurd z (by decide), fun _ => rfl⟩ (sg_118e (by omega) rfl rfl h)
theorem sg_nd4 (h : post (nI 4) (nI 5, 0, 0, 0, 0, 0, 0, 1, 0, sg_pre sg_kT 5, sg_pre sg_x0 5, sg_pre (sg_yT bz st) 5, sg_pre sg_zT 5, sg_Z, sg_Z, sg_pre (sg_vT bz st) 5, sg_Z, sg_Z, sg_Z)) : wpX_node post (nI 4, 0, 0, 0, 0, 0, 0, 1, 0, sg_pre sg_kT 4, sg_pre sg_x0 4, sg_pre (sg_yT bz st) 4, sg_pre sg_zT 4, sg_Z, sg_Z, sg_pre (sg_vT bz st) 4, sg_Z, sg_Z, sg_Z) 3 1 3 0 :=
  sg_node (by omega) (by decide) (by decide) (fun ψ hψ => br_f (by decide) (br_f (by decide) (br_t rfl (sg_ev_t (c := 4) (p := 1) rfl (by omega) (by omega) rfl (br_f (by decide) (sg_ev_t (c := 4) (p := 3) rfl (by omega) (by omega) rfl (br_f (by decide) hψ))))))) rfl rfl rfl rfl ⟨fun z => absurd z (by decide), fun _ => rfl⟩ (sg_118e (by omega) rfl rfl h)
theorem sg_nd5 (h : post (nI 5) (nI 6, 0, 0, 0, 0, 0, 0, 1, 0, sg_pre sg_kT 6, sg_pre sg_x0 6, sg_pre (sg_yT bz st) 6, sg_pre sg_zT 6, sg_Z, sg_Z, sg_pre (sg_vT bz st) 6, sg_Z, sg_Z, sg_Z)) : wpX_node post (nI 5, 0, 0, 0, 0, 0, 0, 1, 0, sg_pre sg_kT 5, sg_pre sg_x0 5, sg_pre (sg_yT bz st) 5, sg_pre sg_zT 5, sg_Z, sg_Z, sg_pre (sg_vT bz st) 5, sg_Z, sg_Z, sg_Z) 9 2 0 0 :=
  sg_node (by omega) (by decide) (by decide) (fun ψ hψ => br_f (by decide) (br_f (by decide) (br_f (by decide) (br_f (by decide) (br_f (by decide) (br_f (by decide) (br_f (by decide) (br_f (by decide) (br_t rfl (sg_ce_t (c := 5) (p := 2) rfl (by omega) (by omega) rfl ⟨rfl, hψ⟩)))))))))) rfl rfl rfl rfl ⟨fun z => absurd z (by decide), fun _ => rfl⟩ (sg_118e (by omega) rfl rfl h)
theorem sg_fitE {ψ : Int32 → Prop} {nc ar hv ch kt ov tc lv wt : Int32} {a1 a2 a3 a4 a5 a6 a7 a8 a9 a10 : Nat → Int32} {c p : Nat} {p0 p2 p3 : Int32} (hc : nc = nI c) (hp : p < c) (hc2 : c ≤ 24) (hk : sg_isC (a1 p) = false) (q0 : ¬ p0 = 0) (q4 : ¬ p0 = 4) (q3 : ¬ p0 = 3) (q5 : ¬ p0 = 5) (q7 : ¬ p0 = 7) (q6 : ¬ p0 = 6) (q10 : ¬ p0 = 10) (q13 : ¬ p0 = 13) (q9 : ¬ p0 = 9) (q14 : ¬ p0 = 14) (h : ψ 1) : wpX_operandsFit ψ (nc, ar, hv, ch, kt, ov, tc, lv, wt, a1, a2, a3, a4, a5, a6, a7, a8, a9, a10) p0 (nI p) p2 p3 :=
  br_f q0 (br_f q4 (br_f q3 (br_f q5 (br_f q7 (br_f q6 (br_f q10 (br_f q13 (br_f q9 (br_f q14 (sg_ev_t hc hp hc2 hk ⟨rfl, h⟩))))))))))
theorem sg_nd6 (h : post (nI 6) (nI 7, 0, 0, 0, 0, 0, 0, 1, 0, sg_pre sg_kT 7, sg_pre sg_x0 7, sg_pre (sg_yT bz st) 7, sg_pre sg_zT 7, sg_Z, sg_Z, sg_pre (sg_vT bz st) 7, sg_Z, sg_Z, sg_Z)) : wpX_node post (nI 6, 0, 0, 0, 0, 0, 0, 1, 0, sg_pre sg_kT 6, sg_pre sg_x0 6, sg_pre (sg_yT bz st) 6, sg_pre sg_zT 6, sg_Z, sg_Z, sg_pre (sg_vT bz st) 6, sg_Z, sg_Z, sg_Z) 11 5 0 0 :=
  sg_node (by omega) (by decide) (by decide) (fun ψ hψ => sg_fitE (c := 6) (p := 5) rfl (by omega) (by omega) rfl (by decide) (by decide) (by decide) (by decide) (by decide) (by decide) (by decide) (by decide) (by decide) (by decide) hψ) rfl rfl rfl rfl ⟨fun z => absurd z (by decide), fun _ => rfl⟩ (sg_118e (by omega) rfl rfl h)
theorem sg_nd7 (h : post (nI 7) (nI 8, 0, 0, 0, 0, 0, 0, 1, 0, sg_pre sg_kT 8, sg_pre sg_x0 8, sg_pre (sg_yT bz st) 8, sg_pre sg_zT 8, sg_Z, sg_Z, sg_pre (sg_vT bz st) 8, sg_Z, sg_Z, sg_Z)) : wpX_node post (nI 7, 0, 0, 0, 0, 0, 0, 1, 0, sg_pre sg_kT 7, sg_pre sg_x0 7, sg_pre (sg_yT bz st) 7, sg_pre sg_zT 7, sg_Z, sg_Z, sg_pre (sg_vT bz st) 7, sg_Z, sg_Z, sg_Z) 8 0 0 0 :=
  sg_node (by omega) (by decide) (by decide) (fun ψ hψ => sg_fitE (c := 7) (p := 0) rfl (by omega) (by omega) rfl (by decide) (by decide) (by decide) (by decide) (by decide) (by decide) (by decide) (by decide) (by decide) (by decide) hψ) rfl rfl rfl rfl ⟨fun z => absurd z (by decide), fun _ => rfl⟩ (sg_118e (by omega) rfl rfl h)
theorem sg_nd8 (h : post (nI 8) (nI 9, 0, 0, 0, 0, 0, 0, 1, 0, sg_pre sg_kT 9, sg_pre sg_x0 9, sg_pre (sg_yT bz st) 9, sg_pre sg_zT 9, sg_Z, sg_Z, sg_pre (sg_vT bz st) 9, sg_Z, sg_Z, sg_Z)) : wpX_node post (nI 8, 0, 0, 0, 0, 0, 0, 1, 0, sg_pre sg_kT 8, sg_pre sg_x0 8, sg_pre (sg_yT bz st) 8, sg_pre sg_zT 8, sg_Z, sg_Z, sg_pre (sg_vT bz st) 8, sg_Z, sg_Z, sg_Z) 2 5 10 0 :=
  sg_node (by omega) (by decide) (by decide) (fun ψ hψ => sg_fitE (c := 8) (p := 5) rfl (by omega) (by omega) rfl (by decide) (by decide) (by decide) (by decide) (by decide) (by decide) (by decide) (by decide) (by decide) (by decide) hψ) rfl rfl rfl rfl ⟨fun z => absurd z (by decide), fun _ => rfl⟩ (sg_118e (by omega) rfl rfl h)
theorem sg_nd9 (h : post (nI 9) (nI 10, 0, 0, 0, 0, 0, 0, 1, 0, sg_pre sg_kT 10, sg_pre sg_x0 10, sg_pre (sg_yT bz st) 10, sg_pre sg_zT 10, sg_Z, sg_Z, sg_pre (sg_vT bz st) 10, sg_Z, sg_Z, sg_Z)) : wpX_node post (nI 9, 0, 0, 0, 0, 0, 0, 1, 0, sg_pre sg_kT 9, sg_pre sg_x0 9, sg_pre (sg_yT bz st) 9, sg_pre sg_zT 9, sg_Z, sg_Z, sg_pre (sg_vT bz st) 9, sg_Z, sg_Z, sg_Z) 4 8 0 0 :=
  sg_node (by omega) (by decide) (by decide) (fun ψ hψ => br_f (by decide) (br_t rfl (br_f (by decide) (sg_ev_t (c := 9) (p := 8) rfl (by omega) (by omega) rfl (br_f (by decide) hψ))))) rfl rfl rfl rfl ⟨fun _ => rfl, fun z => absurd rfl z⟩ (sg_118h (by omega) rfl rfl h)
theorem sg_nd10 (h : post (nI 10) (nI 11, 0, 0, 0, 0, 0, 0, 1, 0, sg_pre sg_kT 11, sg_pre sg_x0 11, sg_pre (sg_yT bz st) 11, sg_pre sg_zT 11, sg_Z, sg_Z, sg_pre (sg_vT bz st) 11, sg_Z, sg_Z, sg_Z)) : wpX_node post (nI 10, 0, 0, 0, 0, 0, 0, 1, 0, sg_pre sg_kT 10, sg_pre sg_x0 10, sg_pre (sg_yT bz st) 10, sg_pre sg_zT 10, sg_Z, sg_Z, sg_pre (sg_vT bz st) 10, sg_Z, sg_Z, sg_Z) 14 2 bz 1 :=
  sg_node (by omega) (by decide) (by decide) (fun ψ hψ => br_f (by decide) (br_f (by decide) (br_f (by decide) (br_f (by decide) (br_f (by decide) (br_f (by decide) (br_f (by decide) (br_f (by decide) (br_f (by decide) (br_t rfl (sg_ce_t (c := 10) (p := 2) rfl (by omega) (by omega) rfl ⟨rfl, hψ⟩))))))))))) rfl rfl rfl rfl ⟨fun z => absurd z (by decide), fun _ => rfl⟩ (sg_118c (by omega) rfl (by decide) (fun φ hφ => sg_cbTimes (upd (sg_pre (sg_vT bz st) 10) 10 0) (x := 2) (fun φ p hp hh => sg_cvB hp hh) (by omega) (by omega) rfl rfl hφ) h)
theorem sg_nd11 (h : post (nI 11) (nI 12, 0, 0, 0, 0, 0, 0, 1, 0, sg_pre sg_kT 12, sg_pre sg_x0 12, sg_pre (sg_yT bz st) 12, sg_pre sg_zT 12, sg_Z, sg_Z, sg_pre (sg_vT bz st) 12, sg_Z, sg_Z, sg_Z)) : wpX_node post (nI 11, 0, 0, 0, 0, 0, 0, 1, 0, sg_pre sg_kT 11, sg_pre sg_x0 11, sg_pre (sg_yT bz st) 11, sg_pre sg_zT 11, sg_Z, sg_Z, sg_pre (sg_vT bz st) 11, sg_Z, sg_Z, sg_Z) 7 1 9 0 :=
  sg_node (by omega) (by decide) (by decide) (fun ψ hψ => br_f (by decide) (br_f (by decide) (br_f (by decide) (br_f (by decide) (br_t rfl (sg_ev_t (c := 11) (p := 1) rfl (by omega) (by omega) rfl (br_f (by decide) (sg_ce_t (c := 11) (p := 9) rfl (by omega) (by omega) rfl (br_f (by decide) hψ))))))))) rfl rfl rfl rfl ⟨fun z => absurd z (by decide), fun _ => rfl⟩ (sg_118e (by omega) rfl rfl h)
theorem sg_nd12 (h : post (nI 12) (nI 13, 0, 0, 0, 0, 0, 0, 1, 0, sg_pre sg_kT 13, sg_pre sg_x0 13, sg_pre (sg_yT bz st) 13, sg_pre sg_zT 13, sg_Z, sg_Z, sg_pre (sg_vT bz st) 13, sg_Z, sg_Z, sg_Z)) : wpX_node post (nI 12, 0, 0, 0, 0, 0, 0, 1, 0, sg_pre sg_kT 12, sg_pre sg_x0 12, sg_pre (sg_yT bz st) 12, sg_pre sg_zT 12, sg_Z, sg_Z, sg_pre (sg_vT bz st) 12, sg_Z, sg_Z, sg_Z) 12 11 0 0 :=
  sg_node (by omega) (by decide) (by decide) (fun ψ hψ => sg_fitE (c := 12) (p := 11) rfl (by omega) (by omega) rfl (by decide) (by decide) (by decide) (by decide) (by decide) (by decide) (by decide) (by decide) (by decide) (by decide) hψ) rfl rfl rfl rfl ⟨fun z => absurd z (by decide), fun _ => rfl⟩ (sg_118e (by omega) rfl rfl h)
theorem sg_nd13 (h : post (nI 13) (nI 14, 0, 0, 0, 0, 0, 0, 1, 0, sg_pre sg_kT 14, sg_pre sg_x0 14, sg_pre (sg_yT bz st) 14, sg_pre sg_zT 14, sg_Z, sg_Z, sg_pre (sg_vT bz st) 14, sg_Z, sg_Z, sg_Z)) : wpX_node post (nI 13, 0, 0, 0, 0, 0, 0, 1, 0, sg_pre sg_kT 13, sg_pre sg_x0 13, sg_pre (sg_yT bz st) 13, sg_pre sg_zT 13, sg_Z, sg_Z, sg_pre (sg_vT bz st) 13, sg_Z, sg_Z, sg_Z) 10 9 11 0 :=
  sg_node (by omega) (by decide) (by decide) (fun ψ hψ => br_f (by decide) (br_f (by decide) (br_f (by decide) (br_f (by decide) (br_f (by decide) (br_f (by decide) (br_t rfl (sg_ce_t (c := 13) (p := 9) rfl (by omega) (by omega) rfl (br_f (by decide) (sg_ev_t (c := 13) (p := 11) rfl (by omega) (by omega) rfl (br_f (by decide) (sg_ev_t (c := 13) (p := 0) rfl (by omega) (by omega) rfl (br_f (by decide) hψ))))))))))))) rfl rfl rfl rfl ⟨fun z => absurd z (by decide), fun _ => rfl⟩ (sg_118e (by omega) rfl rfl h)
theorem sg_nd14 (h : post (nI 14) (nI 15, 0, 0, 0, 0, 0, 0, 1, 0, sg_pre sg_kT 15, sg_pre sg_x0 15, sg_pre (sg_yT bz st) 15, sg_pre sg_zT 15, sg_Z, sg_Z, sg_pre (sg_vT bz st) 15, sg_Z, sg_Z, sg_Z)) : wpX_node post (nI 14, 0, 0, 0, 0, 0, 0, 1, 0, sg_pre sg_kT 14, sg_pre sg_x0 14, sg_pre (sg_yT bz st) 14, sg_pre sg_zT 14, sg_Z, sg_Z, sg_pre (sg_vT bz st) 14, sg_Z, sg_Z, sg_Z) 13 9 10 2 :=
  sg_node (by omega) (by decide) (by decide) (fun ψ hψ => br_f (by decide) (br_f (by decide) (br_f (by decide) (br_f (by decide) (br_f (by decide) (br_f (by decide) (br_f (by decide) (br_t rfl (sg_ce_t (c := 14) (p := 9) rfl (by omega) (by omega) rfl (br_f (by decide) (sg_ce_t (c := 14) (p := 10) rfl (by omega) (by omega) rfl (br_f (by decide) (sg_ce_t (c := 14) (p := 2) rfl (by omega) (by omega) rfl (br_f (by decide) hψ)))))))))))))) rfl rfl rfl rfl ⟨fun z => absurd z (by decide), fun _ => rfl⟩ (sg_118c (by omega) rfl (by decide) (fun φ hφ => sg_cbSelect (upd (sg_pre (sg_vT bz st) 14) 14 0) (x := 9) (y := 10) (z := 2) (fun φ p hp hh => sg_cvB hp hh) (by omega) (by omega) (by omega) (by omega) rfl rfl rfl rfl hφ) h)
end
end
section
theorem sg_tie {ps : Int32 → St1 → Prop} {pt : Nat → Int32} {ar hv ch kt ov tc lv wt : Int32} {a1 a2 a3 a4 a5 a6 a7 a8 a9 a10 : Nat → Int32} (P : sg_PO pt a1 a2 a3 a4) {e : Nat} (he : e < 15) (hne : e ≠ 2) (hk : a1 2 = 4) (hE : sg_isC (a1 e) = false) {r : Int32} (hr : sg_run pt 20 (pt e) 0 = some r)
    (h1 : sg_bt r 2 = false → ps 1 (nI 15, 0, hv, ch, kt, ov, tc, lv, wt, a1, upd a2 2 (nI e), a3, a4, a5, a6, a7, a8, a9, a10)) (h0 : sg_bt r 2 = true → ps 0 (nI 15, ar, hv, ch, kt, ov, tc, lv, wt, a1, a2, a3, a4, a5, a6, a7, a8, a9, a10)) : wpX_tie ps (nI 15, ar, hv, ch, kt, ov, tc, lv, wt, a1, a2, a3, a4, a5, a6, a7, a8, a9, a10) (nI 2) (nI e) := by
  unfold wpX_tie
  dsimp only
  refine sg_isNode rfl (by omega) (by omega) (br_f (by decide) ⟨sg_vp (by omega), br_t hk (br_f ((by decide : ∀ e, e < 15 → ¬ nI e = -1) e he) (sg_ev_t (c := 15) rfl he (by omega) hE (br_f (by decide) ?_)))⟩)
  cases q : sg_bt r 2
  · exact sg_reaches P he (by omega) hne hr (q := 0) (by rw [q]; rfl) (br_t rfl (And.intro (sg_vp (by omega)) (nm_e (h1 q))))
  · exact sg_reaches P he (by omega) hne hr (q := 1) (by rw [q]; rfl) (br_f (by decide) (h0 q))
def sg_pt0 (n : Nat) : Int32 := if n = 2 then 0 else sg_pT n
def sg_a2 : Nat → Int32 := upd (sg_pre sg_x0 15) 2 (nI 4)
theorem sg_pre_in {f : Nat → Int32} {k m : Nat} (h : m < k) : sg_pre f k m = f m := if_pos h
theorem sg_P0 {bz st : Int32} : sg_PO sg_pt0 (sg_pre sg_kT 15) (sg_pre sg_x0 15) (sg_pre (sg_yT bz st) 15) (sg_pre sg_zT 15) :=
  sg_PO_of (fun m hm => if_neg hm) (fun m hm => sg_pre_in hm) (fun m hm h2 => (sg_pre_in hm).trans (if_neg h2)) (Or.inr ⟨rfl, rfl⟩) rfl rfl rfl rfl rfl
theorem sg_a2e : ∀ m, m < 15 → sg_a2 m = nI (sg_xN m) := by decide +kernel
theorem sg_P1 {bz st : Int32} : sg_PO sg_pT (sg_pre sg_kT 15) sg_a2 (sg_pre (sg_yT bz st) 15) (sg_pre sg_zT 15) :=
  sg_PO_of (fun m hm => rfl) (fun m hm => sg_pre_in hm) (fun m hm h2 => sg_a2e m hm) (Or.inl ⟨rfl, rfl⟩) rfl rfl rfl rfl rfl
theorem sg_run4 : sg_run sg_pt0 20 (sg_pt0 4) 0 = some 11 := by decide +kernel
theorem sg_run5 : sg_run sg_pT 20 (sg_pT 5) 0 = some 31 := by decide +kernel
theorem sg_run8 : sg_run sg_pT 20 (sg_pT 8) 0 = some 63 := by decide +kernel
theorem sg_run2 : sg_run sg_pT 20 (sg_pT 2) 0 = some 27 := by decide +kernel
theorem sg_run3 : sg_run sg_pT 20 (sg_pT 3) 0 = some 1 := by decide +kernel
section
variable {post : Int32 → Prop} {L : Nat} {xs : Nat → Int32} {st bz : Int32} {kc ks : Nat}
theorem sg_ties (h : ∃ fu : Nat, wL_law_318 post L xs bz kc ks fu st 0 0 0 0 0 0 2 (nI 15) 0 0 0 0 0 0 1 0 (sg_pre sg_kT 15) sg_a2 (sg_pre (sg_yT bz st) 15) (sg_pre sg_zT 15) sg_Z sg_Z (sg_pre (sg_vT bz st) 15) sg_Z sg_Z sg_Z) : wL_law_39 post L xs st bz kc ks (nI 0) 0 0 0 0 0 0 1 0 (sg_pre sg_kT 0) (sg_pre sg_x0 0) (sg_pre (sg_yT bz st) 0) (sg_pre sg_zT 0) sg_Z sg_Z (sg_pre (sg_vT bz st) 0) sg_Z sg_Z sg_Z := by
  unfold wL_law_39
  refine sg_nd0 (br_t rfl (sg_nd1 (br_t rfl (sg_nd2 (br_t rfl (sg_nd3 (br_t rfl (sg_nd4 (br_t rfl (sg_nd5 (br_t rfl (sg_nd6 (br_t rfl (sg_nd7 (br_t rfl (sg_nd8 (br_t rfl (sg_nd9 (br_t rfl (sg_nd10 (br_t rfl (sg_nd11 (br_t rfl (sg_nd12 (br_t rfl (sg_nd13 (br_t rfl (sg_nd14 (br_t rfl ?_)))))))))))))))))))))))))))))
  refine sg_tie sg_P0 (e := 4) (by omega) (by omega) rfl rfl sg_run4 (fun _ => br_f (by decide) ?_) (fun q => absurd q (by decide))
  refine sg_tie sg_P1 (e := 5) (by omega) (by omega) rfl rfl sg_run5 (fun q => absurd q (by decide)) (fun _ => br_t rfl ?_)
  refine sg_tie sg_P1 (e := 8) (by omega) (by omega) rfl rfl sg_run8 (fun q => absurd q (by decide)) (fun _ => br_t rfl ?_)
  refine sg_leads sg_P1 (n := 2) (m := 0) (by omega) (by omega) sg_run2 (q := 1) (by decide) (br_f (by decide) ?_)
  exact sg_leads sg_P1 (n := 3) (m := 2) (by omega) (by omega) sg_run3 (q := 0) (by decide) (br_t rfl h)
theorem sg_setup (h : ∃ fu : Nat, wL_law_318 post L xs bz kc ks fu st 0 0 0 0 0 0 2 (nI 15) 0 0 0 0 0 0 1 0 (sg_pre sg_kT 15) sg_a2 (sg_pre (sg_yT bz st) 15) (sg_pre sg_zT 15) sg_Z sg_Z (sg_pre (sg_vT bz st) 15) sg_Z sg_Z sg_Z) : wL_law_39 post L xs st bz kc ks 0 0 0 0 0 0 0 1 0 (fun _ => 0) (fun _ => 0) (fun _ => 0) (fun _ => 0) (fun _ => 0) (fun _ => 0) (fun _ => 0) (fun _ => 0) (fun _ => 0) (fun _ => 0) := by
  have key := sg_ties h
  rw [sg_pre_0, sg_pre_0, sg_pre_0, sg_pre_0, sg_pre_0] at key
  exact key
end
end
section
/-- the arrays that never change in the law's loop -/
def sg_G0 (bz : Int32) (a1 a2 a3 a4 : Nat → Int32) : Prop :=
  (∀ m, m < 15 → a1 m = sg_kT m) ∧ (∀ m, m < 15 → a2 m = nI (sg_xN m)) ∧ (a3 3 = nI 2 ∧ a3 4 = nI 3 ∧ a3 8 = 10 ∧ a3 10 = bz ∧ a3 11 = nI 9 ∧ a3 13 = nI 11 ∧ a3 14 = nI 10) ∧ (a4 10 = 1 ∧ a4 13 = nI 0 ∧ a4 14 = nI 2)
theorem sg_G0P {bz : Int32} {a1 a2 a3 a4 : Nat → Int32} (G : sg_G0 bz a1 a2 a3 a4) : sg_PO sg_pT a1 a2 a3 a4 := by
  obtain ⟨g1, g2, ⟨y3, y4, y8, y10, y11, y13, y14⟩, z10, z13, z14⟩ := G
  exact sg_PO_of (fun m hm => rfl) g1 (fun m hm _ => g2 m hm) (Or.inl ⟨g2 2 (by omega), rfl⟩) y4 y13 y14 z13 z14
theorem sg_commit {ps : Int32 → St1 → Prop} {H C : Nat → Bool} {V O : Nat → Int32} {bz : Int32} {ar hv ch kt ov tc lv wt : Int32} {a1 a2 a3 a4 a5 a6 a7 a8 a9 a10 : Nat → Int32} (G0 : sg_G0 bz a1 a2 a3 a4) (hA : sg_Ar ar a5 a6) (S : sg_Spec H C V O bz kt ov a9) (hO : ∀ m, m < 15 → sg_isC (sg_kT m) = true → a7 m = O m)
    (hF : ∀ hv ch kt' ov' wt a5 a6 a7' a8 a9' a10', sg_Ar 1 a5 a6 → sg_Res H C V O ov (a9 7) (a10 12) hv kt' ov' a7' a9' a10' → ps (nI (sg_cnt H 15)) (nI 15, 1, hv, ch, kt', ov', tc + 1, lv, wt, a1, a2, a3, a4, a5, a6, a7', a8, a9', a10')) : wpX_commit ps (nI 15, ar, hv, ch, kt, ov, tc, lv, wt, a1, a2, a3, a4, a5, a6, a7, a8, a9, a10) := by
  unfold wpX_commit
  dsimp only
  refine sg_arr (sg_G0P G0) hA (fun a5 a6 g5 g6 => nm_e ?_)
  have G : sg_G bz a1 a2 a3 a4 a5 a6 := ⟨G0.1, G0.2.1, G0.2.2.1, G0.2.2.2, g5, g6⟩
  have go : ∀ w : Int32, ∃ fu : Nat, wX_commit_49 ps (nI 15) 1 0 0 kt ov (tc + 1) lv a1 a2 a3 a4 a5 a6 a7 a8 a9 a10 fu 0 w := fun w =>
    ⟨16, sg_c49 G S hO (fun hv ch wt a7 a8 I => sg_c146 G S I (fun kt' ov' a7' a9' a10' R => hF _ _ _ _ _ _ _ _ _ _ _ (Or.inr ⟨rfl, g5, g6⟩) R)) 15 0 (by omega) w (fun m hm => absurd hm (by omega))⟩
  exact br_c (fun _ => nm_e (go _)) (fun _ => go _)
/-! what the law's transaction does -/
def sg_nx (g s : Bool) (cell a b : Int32) : Int32 := if g = true then (if s = true then (b + cell) + a else cell + a) else (if s = true then b else cell)
def sg_Hf (g s lt c t o f w : Bool) (n : Nat) : Bool := match n with
  | 0 => g | 1 => s | 3 => g | 4 => g || s | 5 => c | 6 => lt | 7 => g | 8 => t | 11 => o | 12 => f | 13 => w | _ => false
def sg_Cf (c c9 c10 c14 : Bool) (n : Nat) : Bool := match n with
  | 2 => c | 9 => c9 | 10 => c10 | 14 => c14 | _ => false
def sg_Vf (nxt a b cell bz lval sum high high' : Int32) (n : Nat) : Int32 := match n with
  | 0 => a | 1 => b | 2 => nxt | 3 => a + cell | 4 => nxt | 5 => nxt | 6 => lval | 7 => sum + a | 8 => nxt | 9 => high' | 10 => nxt * bz + 1 | 11 => b | 12 => b | 13 => (if high = 0 then a else b) | 14 => (if high' = 0 then nxt else nxt * bz + 1) | _ => 0
def sg_Of (cell bz high : Int32) (n : Nat) : Int32 := match n with
  | 2 => cell | 9 => high | 10 => cell * bz + 1 | 14 => (if high = 0 then cell else cell * bz + 1) | _ => 0
theorem sg_wd {x y : Int32} : (if (!decide (x = y)) = true then x else y) = x := by
  by_cases e : x = y
  · simp [e]
  · simp [e]
theorem sg_spec {g s lt on : Bool} {cell a b bz lval sum high kt ov : Int32} {a9 : Nat → Int32} {nxt : Int32} {c t o w f : Bool} {high' : Int32}
    (en : nxt = sg_nx g s cell a b) (ec : c = !decide (nxt = cell)) (et : t = (c && !decide (nxt < 10))) (eo : o = (s && !decide (high = 0))) (ew : w = if high = 0 then g else o) (ef : f = (o && !on)) (eh : high' = if t = true then nxt else high)
    (k0 : sg_bt kt 0 = g) (k1 : sg_bt kt 1 = s) (k6 : sg_bt kt 6 = lt) (v0 : g = true → a9 0 = a) (v1 : s = true → a9 1 = b) (v6 : lt = true → a9 6 = lval) (v7 : a9 7 = sum) (o12 : sg_bt ov 12 = on) :
    sg_Spec (sg_Hf g s lt c t o f w) (sg_Cf c (!decide (high' = high)) (!decide (nxt * bz + 1 = cell * bz + 1)) (!decide ((if high' = 0 then nxt else nxt * bz + 1) = (if high = 0 then cell else cell * bz + 1)))) (sg_Vf nxt a b cell bz lval sum high high') (sg_Of cell bz high) bz kt ov a9 := by
  have w2 : (if c = true then nxt else cell) = nxt := by rw [ec]; exact sg_wd
  refine ⟨⟨k0.symm, fun z => (v0 z).symm, rfl⟩, ⟨k1.symm, fun z => (v1 z).symm, rfl⟩, ⟨rfl, ?_, ec⟩, ⟨rfl, fun _ => rfl, rfl⟩, ⟨?_, fun z => ?_, rfl⟩, ⟨rfl, fun _ => rfl, rfl⟩, ⟨k6.symm, fun z => (v6 z).symm, rfl⟩, ⟨rfl, fun _ => ?_, rfl⟩, ⟨et, fun _ => rfl, rfl⟩, ⟨rfl, eh, rfl⟩, ⟨rfl, ?_, rfl⟩, ⟨eo, fun _ => rfl, rfl⟩, ⟨?_, fun _ => rfl, rfl⟩, ⟨?_, fun _ => ?_, rfl⟩, ⟨rfl, ?_, rfl⟩, ⟨rfl, rfl⟩⟩
  · show nxt = if (g || s) = true then nxt else cell
    rw [en]
    cases g <;> cases s <;> rfl
  · show (g || s) = (s || g)
    exact Bool.or_comm g s
  · change (g || s) = true at z
    show nxt = sg_mv s g b (a + cell)
    rw [en]
    unfold sg_nx sg_mv
    cases g <;> cases s
    · exact absurd z (by decide)
    · rfl
    · show cell + a = a + cell
      exact Int32.add_comm cell a
    · show (b + cell) + a = b + (a + cell)
      rw [Int32.add_assoc, Int32.add_comm cell a]
  · show sum + a = a9 7 + a
    rw [v7]
  · show nxt * bz + 1 = (if c = true then nxt else cell) * bz + 1
    rw [w2]
  · show f = (o && !sg_bt ov 12)
    rw [o12, ef]
  · show w = sg_Hf g s lt c t o f w (if high = 0 then 0 else 11)
    rw [ew]
    by_cases q : high = 0
    · rw [if_pos q, if_pos q]; rfl
    · rw [if_neg q, if_neg q]; rfl
  · show (if high = 0 then a else b) = sg_Vf nxt a b cell bz lval sum high high' (if high = 0 then 0 else 11)
    by_cases q : high = 0
    · rw [if_pos q, if_pos q]; rfl
    · rw [if_neg q, if_neg q]; rfl
  · show (if high' = 0 then nxt else nxt * bz + 1) = if (if (!decide (high' = high)) = true then high' else high) = 0 then (if c = true then nxt else cell) else (if (!decide (nxt * bz + 1 = cell * bz + 1)) = true then nxt * bz + 1 else cell * bz + 1)
    rw [w2, sg_wd, sg_wd]
def sg_b (x : Bool) : Int32 := if x = true then 1 else 0
def sg_b3 (x : Bool) : Int32 := if x = true then 3 else 0
theorem sg_count : ∀ g s lt c t o f w : Bool, nI (sg_cnt (sg_Hf g s lt c t o f w) 15) = ((((((((sg_b3 g + sg_b s) + sg_b (g || s)) + sg_b c) + sg_b lt) + sg_b t) + sg_b o) + sg_b f) + sg_b w) := by decide +kernel
/-! answers -/
theorem sg_valE {ψ : Int32 → Prop} {ar hv ch kt ov tc lv wt : Int32} {a1 a2 a3 a4 a5 a6 a7 a8 a9 a10 : Nat → Int32} {m : Nat} {q : Bool} {v : Int32} (hm : m < 15) (hk : sg_isC (a1 m) = false) (hq : sg_bt hv m = q) (hv' : q = true → a7 m = v) (h : ψ (if q = true then v else 0)) : wpX_value ψ (nI 15, ar, hv, ch, kt, ov, tc, lv, wt, a1, a2, a3, a4, a5, a6, a7, a8, a9, a10) (nI m) := by
  unfold wpX_value
  dsimp only
  refine sg_isNode rfl hm (by omega) (br_f (by decide) (sg_ev_t (c := 15) rfl hm (by omega) hk (br_f (by decide) (sg_has (by omega) (fun z => br_f (by decide) ⟨sg_vp (by omega), ?_⟩) (fun z => br_t rfl ?_)))))
  · rw [sg_cl (by omega), hv' (hq.symm.trans z)]
    rw [if_pos (hq.symm.trans z)] at h
    exact h
  · rw [hq.symm.trans z] at h
    exact h
theorem sg_valC {ψ : Int32 → Prop} {ar hv ch kt ov tc lv wt : Int32} {a1 a2 a3 a4 a5 a6 a7 a8 a9 a10 : Nat → Int32} {m : Nat} (hm : m < 15) (hk : sg_isC (a1 m) = true) (h : ψ (a7 m)) : wpX_value ψ (nI 15, ar, hv, ch, kt, ov, tc, lv, wt, a1, a2, a3, a4, a5, a6, a7, a8, a9, a10) (nI m) := by
  unfold wpX_value
  dsimp only
  refine sg_isNode rfl hm (by omega) (br_f (by decide) (sg_ev_f (c := 15) rfl hm (by omega) hk (br_t rfl ⟨sg_vp (by omega), ?_⟩)))
  rw [sg_cl (by omega)]
  exact h
theorem sg_had {ψ : Int32 → Prop} {ar hv ch kt ov tc lv wt : Int32} {a1 a2 a3 a4 a5 a6 a7 a8 a9 a10 : Nat → Int32} {m : Nat} {q : Bool} (hm : m < 15) (hk : sg_isC (a1 m) = false) (hq : sg_bt hv m = q) (h : ψ (sg_b q)) : wpX_had ψ (nI 15, ar, hv, ch, kt, ov, tc, lv, wt, a1, a2, a3, a4, a5, a6, a7, a8, a9, a10) (nI m) := by
  unfold wpX_had
  dsimp only
  refine sg_ev_t (c := 15) rfl hm (by omega) hk (br_f (by decide) (sg_has (by omega) (fun z => br_f (by decide) ?_) (fun z => br_t rfl ?_)))
  · rw [hq.symm.trans z] at h
    exact h
  · rw [hq.symm.trans z] at h
    exact h
theorem sg_fire {ps : Int32 → St1 → Prop} {ar hv ch kt ov tc lv wt : Int32} {a1 a2 a3 a4 a5 a6 a7 a8 a9 a10 : Nat → Int32} {m : Nat} {x : Int32} (hm : m < 15) (hk : a1 m = 0) (h : ps 1 (nI 15, ar, hv, ch, kt ||| ((1 : Int32) <<< (nI m &&& 31)), ov, tc, lv, wt, a1, a2, a3, a4, a5, a6, a7, a8, upd a9 m x, a10)) : wpX_fire ps (nI 15, ar, hv, ch, kt, ov, tc, lv, wt, a1, a2, a3, a4, a5, a6, a7, a8, a9, a10) (nI m) x := by
  unfold wpX_fire
  dsimp only
  refine sg_isNode rfl hm (by omega) (br_f (by decide) ⟨sg_vp (by omega), ?_⟩)
  rw [sg_cl (by omega)]
  exact br_t hk ⟨sg_vp (by omega), nm_e (nm_e h)⟩
theorem sg_times {ψ : Int32 → Prop} {ar hv ch kt ov tc lv wt : Int32} {a1 a2 a3 a4 a5 a6 a7 a8 a9 a10 : Nat → Int32} {m : Nat} (hm : m < 15) (h : ψ (a10 m)) : wpX_times ψ (nI 15, ar, hv, ch, kt, ov, tc, lv, wt, a1, a2, a3, a4, a5, a6, a7, a8, a9, a10) (nI m) := by
  unfold wpX_times
  dsimp only
  refine sg_isNode rfl hm (by omega) (br_f (by decide) ⟨sg_vp (by omega), ?_⟩)
  rw [sg_cl (by omega)]
  exact h
theorem sg_level {ps : Int32 → St1 → Prop} {nc ar hv ch kt ov tc lv wt : Int32} {a1 a2 a3 a4 a5 a6 a7 a8 a9 a10 : Nat → Int32} {x : Int32} (h : ∀ lv, ps 1 (nc, ar, hv, ch, kt, ov, tc, lv, wt, a1, a2, a3, a4, a5, a6, a7, a8, a9, a10)) : wpX_level ps (nc, ar, hv, ch, kt, ov, tc, lv, wt, a1, a2, a3, a4, a5, a6, a7, a8, a9, a10) (x &&& 1) := by
  obtain ⟨j, hj, e⟩ := pk_andE x (m := 1) 1 (by decide)
  rw [e]
  exact br_f (nI_pos (by omega)) (br_t (nI_le (b := 1) (by omega) (by omega)) (h _))
end
section
section
variable {post : Int32 → Prop} {L : Nat} {xs : Nat → Int32} {J : Int32 → Int32 → Int32 → Int32 → Int32 → Int32 → Int32 → Int32 → Int32 → Int32 → Int32 → Int32 → Int32 → Int32 → Int32 → Int32 → Int32 → (Nat → Int32) → (Nat → Int32) → (Nat → Int32) → (Nat → Int32) → (Nat → Int32) → (Nat → Int32) → (Nat → Int32) → (Nat → Int32) → (Nat → Int32) → (Nat → Int32) → Prop} {bz cell high sum lval n a b nxt z0 z1 : Int32} {lt on g s c t o w f : Bool} {i kc ks : Nat} {nc ar hv ch kt ov tc lv wt : Int32} {a1 a2 a3 a4 a5 a6 a7 a8 a9 a10 : Nat → Int32}
theorem sg_q665 (h : wL_law_676 post L xs J bz cell high sum (sg_b lt) lval (sg_b on) n (nI i) (sg_b g) a b nxt (sg_b c) (sg_b t) (sg_b o) (sg_b w) (sg_b f) (sg_b w) (z1 + z0) kc ks nc ar hv ch kt ov tc lv wt a1 a2 a3 a4 a5 a6 a7 a8 a9 a10) : wL_law_665 post L xs J bz cell high sum (sg_b lt) lval (sg_b on) n (nI i) (sg_b g) a b nxt (sg_b c) (sg_b t) (sg_b o) (sg_b w) (sg_b f) z0 z1 kc ks nc ar hv ch kt ov tc lv wt a1 a2 a3 a4 a5 a6 a7 a8 a9 a10 := by
  cases w
  · exact br_t rfl h
  · exact br_f (by decide) h
theorem sg_q654 (h : wL_law_665 post L xs J bz cell high sum (sg_b lt) lval (sg_b on) n (nI i) (sg_b g) a b nxt (sg_b c) (sg_b t) (sg_b o) (sg_b w) (sg_b f) (sg_b f) (z1 + z0) kc ks nc ar hv ch kt ov tc lv wt a1 a2 a3 a4 a5 a6 a7 a8 a9 a10) : wL_law_654 post L xs J bz cell high sum (sg_b lt) lval (sg_b on) n (nI i) (sg_b g) a b nxt (sg_b c) (sg_b t) (sg_b o) (sg_b w) (sg_b f) z0 z1 kc ks nc ar hv ch kt ov tc lv wt a1 a2 a3 a4 a5 a6 a7 a8 a9 a10 := by
  cases f
  · exact br_t rfl h
  · exact br_f (by decide) h
theorem sg_q643 (h : wL_law_654 post L xs J bz cell high sum (sg_b lt) lval (sg_b on) n (nI i) (sg_b g) a b nxt (sg_b c) (sg_b t) (sg_b o) (sg_b w) (sg_b f) (sg_b o) (z1 + z0) kc ks nc ar hv ch kt ov tc lv wt a1 a2 a3 a4 a5 a6 a7 a8 a9 a10) : wL_law_643 post L xs J bz cell high sum (sg_b lt) lval (sg_b on) n (nI i) (sg_b g) a b nxt (sg_b c) (sg_b t) (sg_b o) (sg_b w) (sg_b f) z0 z1 kc ks nc ar hv ch kt ov tc lv wt a1 a2 a3 a4 a5 a6 a7 a8 a9 a10 := by
  cases o
  · exact br_t rfl h
  · exact br_f (by decide) h
theorem sg_q632 (h : wL_law_643 post L xs J bz cell high sum (sg_b lt) lval (sg_b on) n (nI i) (sg_b g) a b nxt (sg_b c) (sg_b t) (sg_b o) (sg_b w) (sg_b f) (sg_b t) (z1 + z0) kc ks nc ar hv ch kt ov tc lv wt a1 a2 a3 a4 a5 a6 a7 a8 a9 a10) : wL_law_632 post L xs J bz cell high sum (sg_b lt) lval (sg_b on) n (nI i) (sg_b g) a b nxt (sg_b c) (sg_b t) (sg_b o) (sg_b w) (sg_b f) z0 z1 kc ks nc ar hv ch kt ov tc lv wt a1 a2 a3 a4 a5 a6 a7 a8 a9 a10 := by
  cases t
  · exact br_t rfl h
  · exact br_f (by decide) h
theorem sg_q621 (h : wL_law_632 post L xs J bz cell high sum (sg_b lt) lval (sg_b on) n (nI i) (sg_b g) a b nxt (sg_b c) (sg_b t) (sg_b o) (sg_b w) (sg_b f) (sg_b lt) (z1 + z0) kc ks nc ar hv ch kt ov tc lv wt a1 a2 a3 a4 a5 a6 a7 a8 a9 a10) : wL_law_621 post L xs J bz cell high sum (sg_b lt) lval (sg_b on) n (nI i) (sg_b g) a b nxt (sg_b c) (sg_b t) (sg_b o) (sg_b w) (sg_b f) z0 z1 kc ks nc ar hv ch kt ov tc lv wt a1 a2 a3 a4 a5 a6 a7 a8 a9 a10 := by
  cases lt
  · exact br_t rfl h
  · exact br_f (by decide) h
theorem sg_q610 (h : wL_law_621 post L xs J bz cell high sum (sg_b lt) lval (sg_b on) n (nI i) (sg_b g) a b nxt (sg_b c) (sg_b t) (sg_b o) (sg_b w) (sg_b f) (sg_b c) (z1 + z0) kc ks nc ar hv ch kt ov tc lv wt a1 a2 a3 a4 a5 a6 a7 a8 a9 a10) : wL_law_610 post L xs J bz cell high sum (sg_b lt) lval (sg_b on) n (nI i) (sg_b g) a b nxt (sg_b c) (sg_b t) (sg_b o) (sg_b w) (sg_b f) z0 z1 kc ks nc ar hv ch kt ov tc lv wt a1 a2 a3 a4 a5 a6 a7 a8 a9 a10 := by
  cases c
  · exact br_t rfl h
  · exact br_f (by decide) h
theorem sg_q594 (h : wL_law_610 post L xs J bz cell high sum (sg_b lt) lval (sg_b on) n (nI i) (sg_b g) a b nxt (sg_b c) (sg_b t) (sg_b o) (sg_b w) (sg_b f) (sg_b (g || s)) (z1 + z0) kc ks nc ar hv ch kt ov tc lv wt a1 a2 a3 a4 a5 a6 a7 a8 a9 a10) : wL_law_594 post L xs J bz cell high sum (sg_b lt) lval (sg_b on) n (nI i) (sg_b g) (sg_b s) a b nxt (sg_b c) (sg_b t) (sg_b o) (sg_b w) (sg_b f) z0 z1 kc ks nc ar hv ch kt ov tc lv wt a1 a2 a3 a4 a5 a6 a7 a8 a9 a10 := by
  cases g
  · cases s
    · exact br_t rfl (br_t rfl h)
    · exact br_t rfl (br_f (by decide) h)
  · exact br_f (by decide) h
theorem sg_q584 (h : wL_law_594 post L xs J bz cell high sum (sg_b lt) lval (sg_b on) n (nI i) (sg_b g) (sg_b s) a b nxt (sg_b c) (sg_b t) (sg_b o) (sg_b w) (sg_b f) (sg_b s) z0 kc ks nc ar hv ch kt ov tc lv wt a1 a2 a3 a4 a5 a6 a7 a8 a9 a10) : wL_law_584 post L xs J bz cell high sum (sg_b lt) lval (sg_b on) n (nI i) (sg_b g) (sg_b s) a b nxt (sg_b c) (sg_b t) (sg_b o) (sg_b w) (sg_b f) z0 kc ks nc ar hv ch kt ov tc lv wt a1 a2 a3 a4 a5 a6 a7 a8 a9 a10 := by
  cases s
  · exact br_t rfl h
  · exact br_f (by decide) h
theorem sg_q574 (h : wL_law_584 post L xs J bz cell high sum (sg_b lt) lval (sg_b on) n (nI i) (sg_b g) (sg_b s) a b nxt (sg_b c) (sg_b t) (sg_b o) (sg_b w) (sg_b f) (sg_b3 g) kc ks nc ar hv ch kt ov tc lv wt a1 a2 a3 a4 a5 a6 a7 a8 a9 a10) : wL_law_574 post L xs J bz cell high sum (sg_b lt) lval (sg_b on) n (nI i) (sg_b g) (sg_b s) a b nxt (sg_b c) (sg_b t) (sg_b o) (sg_b w) (sg_b f) kc ks nc ar hv ch kt ov tc lv wt a1 a2 a3 a4 a5 a6 a7 a8 a9 a10 := by
  cases g
  · exact br_t rfl h
  · exact br_f (by decide) h
theorem sg_q560 (h : wL_law_574 post L xs J bz cell high (if g = true then sum + a else sum) (sg_b lt) lval (sg_b on) n (nI i) (sg_b g) (sg_b s) a b nxt (sg_b c) (sg_b t) (sg_b o) (sg_b w) (sg_b f) kc ks nc ar hv ch kt ov tc lv wt a1 a2 a3 a4 a5 a6 a7 a8 a9 a10) : wL_law_560 post L xs J bz cell high sum (sg_b lt) lval (sg_b on) n (nI i) (sg_b g) (sg_b s) a b nxt (sg_b c) (sg_b t) (sg_b o) (sg_b w) (sg_b f) kc ks nc ar hv ch kt ov tc lv wt a1 a2 a3 a4 a5 a6 a7 a8 a9 a10 := by
  cases g
  · exact br_t rfl h
  · exact br_f (by decide) (nm_e h)
theorem sg_q543 (h : wL_law_560 post L xs J bz cell high sum (sg_b lt) lval (sg_b on) n (nI i) (sg_b g) (sg_b s) a b nxt (sg_b c) (sg_b t) (sg_b o) (sg_b w) (sg_b (o && !on)) kc ks nc ar hv ch kt ov tc lv wt a1 a2 a3 a4 a5 a6 a7 a8 a9 a10) : wL_law_543 post L xs J bz cell high sum (sg_b lt) lval (sg_b on) n (nI i) (sg_b g) (sg_b s) a b nxt (sg_b c) (sg_b t) (sg_b o) (sg_b w) kc ks nc ar hv ch kt ov tc lv wt a1 a2 a3 a4 a5 a6 a7 a8 a9 a10 := by
  cases o
  · exact br_t rfl h
  · cases on
    · exact br_f (by decide) (br_t rfl h)
    · exact br_f (by decide) (br_f (by decide) h)
theorem sg_q529 (h : wL_law_543 post L xs J bz cell high sum (sg_b lt) lval (sg_b on) n (nI i) (sg_b g) (sg_b s) a b nxt (sg_b c) (sg_b t) (sg_b o) (sg_b (if high = 0 then g else o)) kc ks nc ar hv ch kt ov tc lv wt a1 a2 a3 a4 a5 a6 a7 a8 a9 a10) : wL_law_529 post L xs J bz cell high sum (sg_b lt) lval (sg_b on) n (nI i) (sg_b g) (sg_b s) a b nxt (sg_b c) (sg_b t) (sg_b o) kc ks nc ar hv ch kt ov tc lv wt a1 a2 a3 a4 a5 a6 a7 a8 a9 a10 := by
  refine br_c (fun e => ?_) (fun e => ?_)
  · rw [if_pos e] at h; exact h
  · rw [if_neg e] at h; exact h
theorem sg_q512 (h : wL_law_529 post L xs J bz cell high sum (sg_b lt) lval (sg_b on) n (nI i) (sg_b g) (sg_b s) a b nxt (sg_b c) (sg_b t) (sg_b (s && !decide (high = 0))) kc ks nc ar hv ch kt ov tc lv wt a1 a2 a3 a4 a5 a6 a7 a8 a9 a10) : wL_law_512 post L xs J bz cell high sum (sg_b lt) lval (sg_b on) n (nI i) (sg_b g) (sg_b s) a b nxt (sg_b c) (sg_b t) kc ks nc ar hv ch kt ov tc lv wt a1 a2 a3 a4 a5 a6 a7 a8 a9 a10 := by
  cases s
  · exact br_t rfl h
  · refine br_f (by decide) (br_c (fun e => ?_) (fun e => ?_))
    · rw [decide_eq_true e] at h; exact h
    · rw [decide_eq_false e] at h; exact h
theorem sg_q493 (h : wL_law_512 post L xs J bz cell high sum (sg_b lt) lval (sg_b on) n (nI i) (sg_b g) (sg_b s) a b nxt (sg_b c) (sg_b (c && !decide (nxt < 10))) kc ks nc ar hv ch kt ov tc lv wt a1 a2 a3 a4 a5 a6 a7 a8 a9 a10) : wL_law_493 post L xs J bz cell high sum (sg_b lt) lval (sg_b on) n (nI i) (sg_b g) (sg_b s) a b nxt (sg_b c) kc ks nc ar hv ch kt ov tc lv wt a1 a2 a3 a4 a5 a6 a7 a8 a9 a10 := by
  cases c
  · exact br_t rfl h
  · refine br_f (by decide) (br_c (fun e => ?_) (fun e => ?_))
    · rw [decide_eq_true e] at h; exact h
    · rw [decide_eq_false e] at h; exact h
theorem sg_q479 (h : wL_law_493 post L xs J bz cell high sum (sg_b lt) lval (sg_b on) n (nI i) (sg_b g) (sg_b s) a b nxt (sg_b (!decide (nxt = cell))) kc ks nc ar hv ch kt ov tc lv wt a1 a2 a3 a4 a5 a6 a7 a8 a9 a10) : wL_law_479 post L xs J bz cell high sum (sg_b lt) lval (sg_b on) n (nI i) (sg_b g) (sg_b s) a b nxt kc ks nc ar hv ch kt ov tc lv wt a1 a2 a3 a4 a5 a6 a7 a8 a9 a10 := by
  refine br_c (fun e => ?_) (fun e => ?_)
  · rw [decide_eq_true e] at h; exact h
  · rw [decide_eq_false e] at h; exact h
/-- from the new value on to the transaction -/
theorem sg_qA (ec : c = !decide (nxt = cell)) (et : t = (c && !decide (nxt < 10))) (eo : o = (s && !decide (high = 0))) (ew : w = if high = 0 then g else o) (ef : f = (o && !on))
    (h : wL_law_676 post L xs J bz cell high (if g = true then sum + a else sum) (sg_b lt) lval (sg_b on) n (nI i) (sg_b g) a b nxt (sg_b c) (sg_b t) (sg_b o) (sg_b w) (sg_b f) (sg_b w) ((((((((sg_b3 g + sg_b s) + sg_b (g || s)) + sg_b c) + sg_b lt) + sg_b t) + sg_b o) + sg_b f)) kc ks nc ar hv ch kt ov tc lv wt a1 a2 a3 a4 a5 a6 a7 a8 a9 a10) : wL_law_479 post L xs J bz cell high sum (sg_b lt) lval (sg_b on) n (nI i) (sg_b g) (sg_b s) a b nxt kc ks nc ar hv ch kt ov tc lv wt a1 a2 a3 a4 a5 a6 a7 a8 a9 a10 := by
  refine sg_q479 ?_
  rw [← ec]
  refine sg_q493 ?_
  rw [← et]
  refine sg_q512 ?_
  rw [← eo]
  refine sg_q529 ?_
  rw [← ew]
  refine sg_q543 ?_
  rw [← ef]
  exact sg_q560 (sg_q574 (sg_q584 (sg_q594 (sg_q610 (sg_q621 (sg_q632 (sg_q643 (sg_q654 (sg_q665 h)))))))))
/-! behind the transaction -/
theorem sg_q936 (g1 : ∀ m, m < 15 → a1 m = sg_kT m) (e9 : a7 9 = high) (e10 : a7 10 = nxt * bz + 1) (e14 : a7 14 = if high = 0 then nxt else nxt * bz + 1)
    (h : J nxt high sum (sg_b c) nxt (sg_b on) n (nI (i + 2)) (nI 15) ar hv ch kt ov tc lv wt a1 a2 a3 a4 a5 a6 a7 a8 a9 a10) : wL_law_936 post L xs J bz high sum (sg_b on) n (nI i) nxt (sg_b c) kc ks (nI 15) ar hv ch kt ov tc lv wt a1 a2 a3 a4 a5 a6 a7 a8 a9 a10 := by
  unfold wL_law_936
  refine sg_valC (m := 9) (by omega) (by rw [g1 9 (by omega)]; rfl) (br_t e9 (sg_valC (m := 10) (by omega) (by rw [g1 10 (by omega)]; rfl) (br_t e10 (sg_valC (m := 14) (by omega) (by rw [g1 14 (by omega)]; rfl) (br_c (fun z => br_t ?_ (nm_r (nI_add i 2) h)) (fun z => br_t ?_ (nm_r (nI_add i 2) h)))))))
  · rw [e14, if_pos z]
  · rw [e14, if_neg z]
theorem sg_q928 (h : wL_law_936 post L xs J bz high sum (sg_b (on || f)) n (nI i) nxt (sg_b c) kc ks nc ar hv ch kt ov tc lv wt a1 a2 a3 a4 a5 a6 a7 a8 a9 a10) : wL_law_928 post L xs J bz high sum (sg_b on) n (nI i) nxt (sg_b c) (sg_b f) kc ks nc ar hv ch kt ov tc lv wt a1 a2 a3 a4 a5 a6 a7 a8 a9 a10 := by
  cases on <;> cases f
  · exact br_t rfl h
  · exact br_f (by decide) h
  · exact br_t rfl h
  · exact br_f (by decide) h
theorem sg_q914 (h : wL_law_928 post L xs J bz (if t = true then nxt else high) sum (sg_b on) n (nI i) nxt (sg_b c) (sg_b f) kc ks nc ar hv ch kt ov tc lv wt a1 a2 a3 a4 a5 a6 a7 a8 a9 a10) : wL_law_914 post L xs J bz high sum (sg_b on) n (nI i) nxt (sg_b c) (sg_b t) (sg_b f) z0 z0 kc ks nc ar hv ch kt ov tc lv wt a1 a2 a3 a4 a5 a6 a7 a8 a9 a10 := by
  cases t
  · exact br_t rfl (br_t rfl h)
  · exact br_t rfl (br_f (by decide) h)
theorem sg_q853 (g1 : ∀ m, m < 15 → a1 m = sg_kT m) (h12 : sg_bt hv 12 = f) (h13 : sg_bt hv 13 = w) (v13 : w = true → a7 13 = if high = 0 then a else b) (ew : w = if high = 0 then g else o)
    (h : ∀ z : Int32, wL_law_914 post L xs J bz high sum (sg_b on) n (nI i) nxt (sg_b c) (sg_b t) (sg_b f) z z kc ks (nI 15) ar hv ch kt ov tc lv wt a1 a2 a3 a4 a5 a6 a7 a8 a9 a10) : wL_law_853 post L xs J bz high sum (sg_b on) n (nI i) (sg_b g) a b nxt (sg_b c) (sg_b t) (sg_b o) (sg_b w) (sg_b f) z0 z0 kc ks (nI 15) ar hv ch kt ov tc lv wt a1 a2 a3 a4 a5 a6 a7 a8 a9 a10 := by
  refine br_t rfl (sg_had (m := 12) (by omega) (by rw [g1 12 (by omega)]; rfl) h12 (br_t rfl (sg_had (m := 13) (by omega) (by rw [g1 13 (by omega)]; rfl) h13 (br_t rfl (sg_valE (m := 13) (by omega) (by rw [g1 13 (by omega)]; rfl) h13 v13 (br_c (fun z => ?_) (fun z => ?_)))))))
  · rw [if_pos z] at ew
    rw [if_pos z, ew]
    cases g
    · exact br_t rfl (h _)
    · exact br_f (by decide) (h _)
  · rw [if_neg z] at ew
    rw [if_neg z, ew]
    cases o
    · exact br_t rfl (h _)
    · exact br_f (by decide) (h _)
theorem sg_q809 (g1 : ∀ m, m < 15 → a1 m = sg_kT m) (h8 : sg_bt hv 8 = t) (h11 : sg_bt hv 11 = o) (v11 : o = true → a7 11 = b)
    (h : ∀ z : Int32, wL_law_853 post L xs J bz high sum (sg_b on) n (nI i) (sg_b g) a b nxt (sg_b c) (sg_b t) (sg_b o) (sg_b w) (sg_b f) z z kc ks (nI 15) ar hv ch kt ov tc lv wt a1 a2 a3 a4 a5 a6 a7 a8 a9 a10) : wL_law_809 post L xs J bz high sum (sg_b on) n (nI i) (sg_b g) a b nxt (sg_b c) (sg_b t) (sg_b o) (sg_b w) (sg_b f) z0 z0 kc ks (nI 15) ar hv ch kt ov tc lv wt a1 a2 a3 a4 a5 a6 a7 a8 a9 a10 := by
  refine br_t rfl (sg_had (m := 8) (by omega) (by rw [g1 8 (by omega)]; rfl) h8 (br_t rfl (sg_had (m := 11) (by omega) (by rw [g1 11 (by omega)]; rfl) h11 (br_t rfl (sg_valE (m := 11) (by omega) (by rw [g1 11 (by omega)]; rfl) h11 v11 ?_)))))
  clear h11 v11
  cases o
  · exact br_t rfl (h _)
  · exact br_f (by decide) (h _)
theorem sg_q789 (g1 : ∀ m, m < 15 → a1 m = sg_kT m) (h7 : sg_bt hv 7 = g) (v7 : g = true → a7 7 = sum)
    (h : ∀ z : Int32, wL_law_809 post L xs J bz high sum (sg_b on) n (nI i) (sg_b g) a b nxt (sg_b c) (sg_b t) (sg_b o) (sg_b w) (sg_b f) z z kc ks (nI 15) ar hv ch kt ov tc lv wt a1 a2 a3 a4 a5 a6 a7 a8 a9 a10) : wL_law_789 post L xs J bz high sum (sg_b on) n (nI i) (sg_b g) a b nxt (sg_b c) (sg_b t) (sg_b o) (sg_b w) (sg_b f) z0 z0 kc ks (nI 15) ar hv ch kt ov tc lv wt a1 a2 a3 a4 a5 a6 a7 a8 a9 a10 := by
  refine br_t rfl (sg_valE (m := 7) (by omega) (by rw [g1 7 (by omega)]; rfl) h7 v7 ?_)
  clear h7 v7
  cases g
  · exact br_t rfl (h _)
  · exact br_f (by decide) (h _)
theorem sg_q758 (g1 : ∀ m, m < 15 → a1 m = sg_kT m) (h6 : sg_bt hv 6 = lt) (v6 : lt = true → a7 6 = lval)
    (h : ∀ z : Int32, wL_law_789 post L xs J bz high sum (sg_b on) n (nI i) (sg_b g) a b nxt (sg_b c) (sg_b t) (sg_b o) (sg_b w) (sg_b f) z z kc ks (nI 15) ar hv ch kt ov tc lv wt a1 a2 a3 a4 a5 a6 a7 a8 a9 a10) : wL_law_758 post L xs J bz high sum (sg_b lt) lval (sg_b on) n (nI i) (sg_b g) a b nxt (sg_b c) (sg_b t) (sg_b o) (sg_b w) (sg_b f) z0 z0 kc ks (nI 15) ar hv ch kt ov tc lv wt a1 a2 a3 a4 a5 a6 a7 a8 a9 a10 := by
  refine br_t rfl (sg_had (m := 6) (by omega) (by rw [g1 6 (by omega)]; rfl) h6 (br_t rfl (sg_valE (m := 6) (by omega) (by rw [g1 6 (by omega)]; rfl) h6 v6 ?_)))
  clear h6 v6
  cases lt
  · exact br_t rfl (h _)
  · exact br_f (by decide) (h _)
theorem sg_q729 (g1 : ∀ m, m < 15 → a1 m = sg_kT m) (h5 : sg_bt hv 5 = c) (v5 : c = true → a7 5 = nxt)
    (h : ∀ z : Int32, wL_law_758 post L xs J bz high sum (sg_b lt) lval (sg_b on) n (nI i) (sg_b g) a b nxt (sg_b c) (sg_b t) (sg_b o) (sg_b w) (sg_b f) z z kc ks (nI 15) ar hv ch kt ov tc lv wt a1 a2 a3 a4 a5 a6 a7 a8 a9 a10) : wL_law_729 post L xs J bz high sum (sg_b lt) lval (sg_b on) n (nI i) (sg_b g) a b nxt (sg_b c) (sg_b t) (sg_b o) (sg_b w) (sg_b f) z0 z0 kc ks (nI 15) ar hv ch kt ov tc lv wt a1 a2 a3 a4 a5 a6 a7 a8 a9 a10 := by
  refine br_t rfl (sg_had (m := 5) (by omega) (by rw [g1 5 (by omega)]; rfl) h5 (br_t rfl (sg_valE (m := 5) (by omega) (by rw [g1 5 (by omega)]; rfl) h5 v5 ?_)))
  clear h5 v5
  cases c
  · exact br_t rfl (h _)
  · exact br_f (by decide) (h _)
end
end
section
/-- the law's state: what the graph holds, what was fired, what is kept -/
def sg_LI (g s lt on : Bool) (a b bz cell high sum lval n ar kt ov tc : Int32) (a1 a2 a3 a4 a5 a6 a7 a9 a10 : Nat → Int32) : Prop :=
  sg_G0 bz a1 a2 a3 a4 ∧ sg_Ar ar a5 a6 ∧ (a7 2 = cell ∧ a7 9 = high ∧ a7 10 = cell * bz + 1 ∧ a7 14 = if high = 0 then cell else cell * bz + 1) ∧
  (sg_bt kt 0 = g ∧ sg_bt kt 1 = s ∧ sg_bt kt 6 = lt) ∧ (g = true → a9 0 = a) ∧ (s = true → a9 1 = b) ∧ (lt = true → a9 6 = lval) ∧ a9 7 = sum ∧ sg_bt ov 12 = on ∧ a10 12 = sg_b on ∧ tc = n
def sg_JH (J : Int32 → Int32 → Int32 → Int32 → Int32 → Int32 → Int32 → Int32 → Int32 → Int32 → Int32 → Int32 → Int32 → Int32 → Int32 → Int32 → Int32 → (Nat → Int32) → (Nat → Int32) → (Nat → Int32) → (Nat → Int32) → (Nat → Int32) → (Nat → Int32) → (Nat → Int32) → (Nat → Int32) → (Nat → Int32) → (Nat → Int32) → Prop) (bz : Int32) (i : Nat) : Prop :=
  ∀ (lt on : Bool) (a b cell high sum lval n : Int32) (ar hv ch kt ov tc lv wt : Int32) (a1 a2 a3 a4 a5 a6 a7 a8 a9 a10 : Nat → Int32), sg_LI false false lt on a b bz cell high sum lval n ar kt ov tc a1 a2 a3 a4 a5 a6 a7 a9 a10 → J cell high sum (sg_b lt) lval (sg_b on) n (nI (i + 2)) (nI 15) ar hv ch kt ov tc lv wt a1 a2 a3 a4 a5 a6 a7 a8 a9 a10
theorem sg_cells : ∀ m, m < 15 → sg_isC (sg_kT m) = true → m = 2 ∨ m = 9 ∨ m = 10 ∨ m = 14 := by decide +kernel
section
variable {post : Int32 → Prop} {L : Nat} {xs : Nat → Int32} {J : Int32 → Int32 → Int32 → Int32 → Int32 → Int32 → Int32 → Int32 → Int32 → Int32 → Int32 → Int32 → Int32 → Int32 → Int32 → Int32 → Int32 → (Nat → Int32) → (Nat → Int32) → (Nat → Int32) → (Nat → Int32) → (Nat → Int32) → (Nat → Int32) → (Nat → Int32) → (Nat → Int32) → (Nat → Int32) → (Nat → Int32) → Prop} {bz cell high sum lval n a b nxt z0 z1 : Int32} {lt on g s c t o w f : Bool} {i kc ks : Nat} {ar hv ch kt ov tc lv wt : Int32} {a1 a2 a3 a4 a5 a6 a7 a8 a9 a10 : Nat → Int32}
theorem sg_q676 (I : sg_LI g s lt on a b bz cell high sum lval n ar kt ov tc a1 a2 a3 a4 a5 a6 a7 a9 a10) (en : nxt = sg_nx g s cell a b) (ec : c = !decide (nxt = cell)) (et : t = (c && !decide (nxt < 10))) (eo : o = (s && !decide (high = 0))) (ew : w = if high = 0 then g else o) (ef : f = (o && !on)) (hJ : sg_JH J bz i) :
    wL_law_676 post L xs J bz cell high (if g = true then sum + a else sum) (sg_b lt) lval (sg_b on) n (nI i) (sg_b g) a b nxt (sg_b c) (sg_b t) (sg_b o) (sg_b w) (sg_b f) (sg_b w) ((((((((sg_b3 g + sg_b s) + sg_b (g || s)) + sg_b c) + sg_b lt) + sg_b t) + sg_b o) + sg_b f)) kc ks (nI 15) ar hv ch kt ov tc lv wt a1 a2 a3 a4 a5 a6 a7 a8 a9 a10 := by
  obtain ⟨G0, hA, ⟨c2, c9, c10, c14⟩, ⟨k0, k1, k6⟩, v0, v1, v6, v7, o12, t12, etc⟩ := I
  have S := sg_spec (bz := bz) (high' := if t = true then nxt else high) en ec et eo ew ef rfl k0 k1 k6 v0 v1 v6 v7 o12
  have hO : ∀ m, m < 15 → sg_isC (sg_kT m) = true → a7 m = sg_Of cell bz high m := by
    intro m hm hk
    rcases sg_cells m hm hk with e | e | e | e <;> subst e
    · exact c2
    · exact c9
    · exact c10
    · exact c14
  unfold wL_law_676
  refine nm_e (nm_e (sg_commit G0 hA S hO (fun hv ch kt' ov' wt a5 a6 a7' a8 a9' a10' hA' R => br_t (sg_count g s lt c t o f w) ?_)))
  clear S hO hA
  obtain ⟨r1, r2, r3, ⟨q0, q1, q6, q9⟩, r7, r12, rt⟩ := R
  have g1 := G0.1
  have w2 : a7' 2 = nxt := (r3 2 (by omega) rfl).trans (by show (if c = true then nxt else cell) = nxt; rw [ec]; exact sg_wd)
  have w9 : a7' 9 = if t = true then nxt else high := (r3 9 (by omega) rfl).trans sg_wd
  have w10 : a7' 10 = nxt * bz + 1 := (r3 10 (by omega) rfl).trans sg_wd
  have w14 : a7' 14 = if (if t = true then nxt else high) = 0 then nxt else nxt * bz + 1 := (r3 14 (by omega) rfl).trans sg_wd
  have s7 : a9' 7 = if g = true then sum + a else sum := by rw [r7, v7]; rfl
  have n12 : a10' 12 = sg_b (on || f) := by
    rw [rt, t12]
    show (if f = true then sg_b on + 1 else sg_b on) = sg_b (on || f)
    rw [ef]
    cases o <;> cases on <;> rfl
  have fin : sg_LI false false c (on || f) a b bz nxt (if t = true then nxt else high) (if g = true then sum + a else sum) nxt (n + 1) 1 kt' ov' (tc + 1) a1 a2 a3 a4 a5 a6 a7' a9' a10' :=
    ⟨G0, hA', ⟨w2, w9, w10, w14⟩, ⟨q0, q1, q6⟩, fun z => absurd z (by decide), fun z => absurd z (by decide), q9, s7, by rw [r12, o12]; rfl, n12, by rw [etc]⟩
  refine br_t (by rw [etc]) (sg_valC (m := 2) (by omega) (by rw [g1 2 (by omega)]; rfl) (br_t w2 (sg_valE (m := 3) (q := g) (v := cell + a) (by omega) (by rw [g1 3 (by omega)]; rfl) (r1 3 (by omega)) (fun z => ?_) ?_)))
  · rw [r2 3 (by omega) z]
    exact Int32.add_comm a cell
  · have key : ∀ z : Int32, wL_law_729 post L xs J bz high (if g = true then sum + a else sum) (sg_b lt) lval (sg_b on) (n + 1) (nI i) (sg_b g) a b nxt (sg_b c) (sg_b t) (sg_b o) (sg_b w) (sg_b f) z z kc ks (nI 15) 1 hv ch kt' ov' (tc + 1) lv wt a1 a2 a3 a4 a5 a6 a7' a8 a9' a10' := fun z =>
      sg_q729 g1 (r1 5 (by omega)) (r2 5 (by omega)) (fun z => sg_q758 g1 (r1 6 (by omega)) (r2 6 (by omega)) (fun z => sg_q789 g1 (r1 7 (by omega)) (fun y => by rw [r2 7 (by omega) y, if_pos y]; rfl) (fun z => sg_q809 g1 (r1 8 (by omega)) (r1 11 (by omega)) (r2 11 (by omega)) (fun z => sg_q853 g1 (r1 12 (by omega)) (r1 13 (by omega)) (r2 13 (by omega)) ew (fun z => sg_q914 (sg_q928 (sg_q936 g1 w9 w10 w14 (hJ _ _ _ _ _ _ _ _ _ _ _ _ _ _ _ _ _ _ _ _ _ _ _ _ _ _ _ fin))))))))
    clear fin n12 s7 r1 r2 r3 q6 q9 r7 r12 rt
    cases g
    · exact br_t rfl (key _)
    · exact br_f (by decide) (key _)
theorem sg_q416 (hi : i < L) (hL : L ≤ 260) (I : sg_LI g s lt on a b bz cell high sum lval n ar kt ov tc a1 a2 a3 a4 a5 a6 a7 a9 a10) (hJ : sg_JH J bz i) : wL_law_416 post L xs J bz cell high sum (sg_b lt) lval (sg_b on) n (nI i) (sg_b g) (sg_b s) a b kc ks (nI 15) ar hv ch kt ov tc lv wt a1 a2 a3 a4 a5 a6 a7 a8 a9 a10 := by
  have key : ∀ lv, wL_law_479 post L xs J bz cell high sum (sg_b lt) lval (sg_b on) n (nI i) (sg_b g) (sg_b s) a b (sg_nx g s cell a b) kc ks (nI 15) ar hv ch kt ov tc lv wt a1 a2 a3 a4 a5 a6 a7 a8 a9 a10 := fun lv => sg_qA rfl rfl rfl rfl rfl (sg_q676 I rfl rfl rfl rfl rfl rfl hJ)
  unfold wL_law_416
  refine ⟨vp_in_nI hi (by omega), sg_level (fun lv => br_f (by decide) ?_)⟩
  clear I
  cases g <;> cases s
  · exact br_t rfl (br_t rfl (br_t rfl (key lv)))
  · exact br_t rfl (br_t rfl (br_f (by decide) (key lv)))
  · exact br_f (by decide) (br_t rfl (br_f (by decide) (key lv)))
  · exact br_f (by decide) (br_f (by decide) (key lv))
theorem sg_q401 (hi : i < L) (hL : L ≤ 260) (I : sg_LI g false lt on a b bz cell high sum lval n ar kt ov tc a1 a2 a3 a4 a5 a6 a7 a9 a10) (hJ : sg_JH J bz i) : wL_law_401 post L xs J bz cell high sum (sg_b lt) lval (sg_b on) n (nI i) (sg_b g) (sg_b s) a b kc ks (nI 15) ar hv ch kt ov tc lv wt a1 a2 a3 a4 a5 a6 a7 a8 a9 a10 := by
  cases s
  · exact br_t rfl (sg_q416 hi hL I hJ)
  · obtain ⟨G0, hA, c2, ⟨k0, k1, k6⟩, v0, v1, v6, v7, o12, t12, etc⟩ := I
    refine br_f (by decide) (sg_fire (m := 1) (by omega) (G0.1 1 (by omega)) (br_f (by decide) (sg_q416 hi hL ⟨G0, hA, c2, ⟨?_, ?_, ?_⟩, fun z => ?_, fun _ => pk_us, fun z => ?_, ?_, o12, t12, etc⟩ hJ)))
    · rw [sg_set kt (by omega) (by omega), k0]; simp
    · rw [sg_set kt (by omega) (by omega)]; simp
    · rw [sg_set kt (by omega) (by omega), k6]; simp
    · rw [pk_un (by omega)]; exact v0 z
    · rw [pk_un (by omega)]; exact v6 z
    · rw [pk_un (by omega)]; exact v7
theorem sg_q359 (hi : i + 1 < L) (hL : L ≤ 260) (I : sg_LI false false lt on 0 0 bz cell high sum lval n ar kt ov tc a1 a2 a3 a4 a5 a6 a7 a9 a10) (hJ : sg_JH J bz i) : wL_law_359 post L xs J bz cell high sum (sg_b lt) lval (sg_b on) n (nI i) (sg_b g) (sg_b s) kc ks (nI 15) ar hv ch kt ov tc lv wt a1 a2 a3 a4 a5 a6 a7 a8 a9 a10 := by
  have vp : vp_in (nI i + 1) L := by rw [nI_1]; exact vp_in_nI hi (by omega)
  unfold wL_law_359
  refine ⟨vp, by decide, nm_e ⟨vp, by decide, nm_e ?_⟩⟩
  obtain ⟨G0, hA, c2, ⟨k0, k1, k6⟩, v0, v1, v6, v7, o12, t12, etc⟩ := I
  cases g
  · exact br_t rfl (sg_q401 (by omega) hL ⟨G0, hA, c2, ⟨k0, k1, k6⟩, fun z => absurd z (by decide), fun z => absurd z (by decide), v6, v7, o12, t12, etc⟩ hJ)
  · refine br_f (by decide) (sg_fire (m := 0) (by omega) (G0.1 0 (by omega)) (br_f (by decide) (sg_q401 (by omega) hL ⟨G0, hA, c2, ⟨?_, ?_, ?_⟩, fun _ => pk_us, fun z => absurd z (by decide), fun z => ?_, ?_, o12, t12, etc⟩ hJ)))
    · rw [sg_set kt (by omega) (by omega)]; simp
    · rw [sg_set kt (by omega) (by omega), k1]; simp
    · rw [sg_set kt (by omega) (by omega), k6]; simp
    · rw [pk_un (by omega)]; exact v6 z
    · rw [pk_un (by omega)]; exact v7
end
theorem sg_cond {L i : Nat} (hL : L ≤ 260) (hi : i ≤ 300) : (Int32.ofNat L) - 2 < nI i ↔ L < i + 2 := by
  show nI L - nI 2 < nI i ↔ _
  rw [Int32.lt_iff_toInt_lt, pk_sub_toInt (by omega) (by omega), nI_toInt (by omega)]
  omega
theorem sg_loop {xs : Nat → Int32} {L : Nat} (hL : L ≤ 260) {bz : Int32} {kc ks : Nat} : ∀ (d i : Nat), L ≤ i + d → i ≤ L + 2 → ∀ (lt on : Bool) (a b cell high sum lval n : Int32) (ar hv ch kt ov tc lv wt : Int32) (a1 a2 a3 a4 a5 a6 a7 a8 a9 a10 : Nat → Int32), sg_LI false false lt on a b bz cell high sum lval n ar kt ov tc a1 a2 a3 a4 a5 a6 a7 a9 a10 → wL_law_318 (fun r => r = 1) L xs bz kc ks (d + 1) cell high sum (sg_b lt) lval (sg_b on) n (nI i) (nI 15) ar hv ch kt ov tc lv wt a1 a2 a3 a4 a5 a6 a7 a8 a9 a10 := by
  intro d
  induction d with
  | zero =>
    intro i h1 h2 lt on a b cell high sum lval n ar hv ch kt ov tc lv wt a1 a2 a3 a4 a5 a6 a7 a8 a9 a10 I
    obtain ⟨-, -, -, -, -, -, -, -, -, t12, -⟩ := I
    refine br_t ((sg_cond hL (by omega)).mpr (by omega)) (sg_times (m := 12) (by omega) ?_)
    rw [t12]
    cases on
    · exact br_t rfl (br_t rfl rfl)
    · exact br_f (by decide) (br_t rfl rfl)
  | succ d ih =>
    intro i h1 h2 lt on a b cell high sum lval n ar hv ch kt ov tc lv wt a1 a2 a3 a4 a5 a6 a7 a8 a9 a10 I
    by_cases q : L < i + 2
    · obtain ⟨-, -, -, -, -, -, -, -, -, t12, -⟩ := I
      refine br_t ((sg_cond hL (by omega)).mpr q) (sg_times (m := 12) (by omega) ?_)
      rw [t12]
      cases on
      · exact br_t rfl (br_t rfl rfl)
      · exact br_f (by decide) (br_t rfl rfl)
    · have hJ : sg_JH (wL_law_318 (fun r => r = 1) L xs bz kc ks (d + 1)) bz i := fun lt on a b cell high sum lval n ar hv ch kt ov tc lv wt a1 a2 a3 a4 a5 a6 a7 a8 a9 a10 I' => ih (i + 2) (by omega) (by omega) lt on a b cell high sum lval n ar hv ch kt ov tc lv wt a1 a2 a3 a4 a5 a6 a7 a8 a9 a10 I'
      have I0 : sg_LI false false lt on 0 0 bz cell high sum lval n ar kt ov tc a1 a2 a3 a4 a5 a6 a7 a9 a10 := by
        obtain ⟨G0, hA, c2, k, v0, v1, v6, v7, o12, t12, etc⟩ := I
        exact ⟨G0, hA, c2, k, fun z => absurd z (by decide), fun z => absurd z (by decide), v6, v7, o12, t12, etc⟩
      have vp : vp_in (nI i) L := vp_in_nI (by omega) (by omega)
      have H : ∀ g : Bool, wL_law_342 (fun r => r = 1) L xs (wL_law_318 (fun r => r = 1) L xs bz kc ks (d + 1)) bz cell high sum (sg_b lt) lval (sg_b on) n (nI i) (sg_b g) kc ks (nI 15) ar hv ch kt ov tc lv wt a1 a2 a3 a4 a5 a6 a7 a8 a9 a10 := fun g =>
        And.intro vp (br_c (fun _ => sg_q359 (s := true) (by omega) hL I0 hJ) (fun _ => sg_q359 (s := false) (by omega) hL I0 hJ))
      exact br_f (fun z => q ((sg_cond hL (by omega)).mp z)) ⟨vp, br_c (fun _ => H true) (fun _ => H false)⟩
theorem sg_start {xs : Nat → Int32} {L : Nat} (hL : L ≤ 260) {st bz : Int32} {kc ks : Nat} : wL_law_39 (fun r => r = 1) L xs st bz kc ks 0 0 0 0 0 0 0 1 0 (fun _ => 0) (fun _ => 0) (fun _ => 0) (fun _ => 0) (fun _ => 0) (fun _ => 0) (fun _ => 0) (fun _ => 0) (fun _ => 0) (fun _ => 0) := by
  refine sg_setup ⟨L + 1, sg_loop hL L 2 (by omega) (by omega) false false 0 0 st 0 0 0 0 0 0 0 0 0 0 1 0 (sg_pre sg_kT 15) sg_a2 (sg_pre (sg_yT bz st) 15) (sg_pre sg_zT 15) sg_Z sg_Z (sg_pre (sg_vT bz st) 15) sg_Z sg_Z sg_Z ?_⟩
  exact ⟨⟨fun m hm => sg_pre_in hm, sg_a2e, ⟨rfl, rfl, rfl, rfl, rfl, rfl, rfl⟩, rfl, rfl, rfl⟩, Or.inl ⟨rfl, rfl, rfl⟩, ⟨rfl, rfl, rfl, rfl⟩, ⟨sg_b0 0, sg_b0 1, sg_b0 6⟩, fun z => absurd z (by decide), fun z => absurd z (by decide), fun z => absurd z (by decide), rfl, sg_b0 12, rfl, rfl⟩
theorem sg_23 {xs : Nat → Int32} {L : Nat} (hL : L ≤ 260) {st : Int32} {kc ks : Nat} : wL_law_23 (fun r => r = 1) L xs st kc ks 0 0 0 0 0 0 0 1 0 (fun _ => 0) (fun _ => 0) (fun _ => 0) (fun _ => 0) (fun _ => 0) (fun _ => 0) (fun _ => 0) (fun _ => 0) (fun _ => 0) (fun _ => 0) :=
  pk_le L 1 (fun _ => sg_start hL) (fun z => ⟨pk_in 1 L z, by decide, sg_start hL⟩)
theorem i_vc (xs : Nat → Int32) (L : Nat) (hL : L ≤ 260) : wpL_law (fun r => r = 1) L xs := by
  refine ⟨10, 240, by omega, by omega, ?_⟩
  unfold wpX_init
  dsimp only
  refine ⟨by omega, by omega, by omega, by omega, by omega, by omega, by omega, by omega, by omega, by omega, by omega, by omega, by omega, by omega, by omega, by omega, by omega, by omega, by omega, by omega, ?_⟩
  exact pk_le L 0 (fun _ => sg_23 hL) (fun z => ⟨pk_in 0 L z, by decide, sg_23 hL⟩)
end
