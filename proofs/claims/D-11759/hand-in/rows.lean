section
/-! bits of an Int32 (rows of kit/laws/BITS.to-paste, renamed, and some of our own) -/
def xb_bt (x : Int32) (i : Nat) : Bool := x.toBitVec.getLsbD i
theorem xb_ext {x y : Int32} (h : ∀ i, i < 32 → xb_bt x i = xb_bt y i) : x = y := Int32.toBitVec_inj.mp (BitVec.eq_of_getLsbD_eq (fun i hi => h i hi))
theorem xb_or (x y : Int32) (i : Nat) : xb_bt (x ||| y) i = (xb_bt x i || xb_bt y i) := by unfold xb_bt; rw [Int32.toBitVec_or, BitVec.getLsbD_or]
theorem xb_and (x y : Int32) (i : Nat) : xb_bt (x &&& y) i = (xb_bt x i && xb_bt y i) := by unfold xb_bt; rw [Int32.toBitVec_and, BitVec.getLsbD_and]
theorem xb_xor (x y : Int32) (i : Nat) : xb_bt (x ^^^ y) i = (xb_bt x i ^^ xb_bt y i) := by unfold xb_bt; rw [Int32.toBitVec_xor, BitVec.getLsbD_xor]
theorem xb_big {x : Int32} {i : Nat} (h : 32 ≤ i) : xb_bt x i = false := BitVec.getLsbD_of_ge _ _ h
theorem xb_m1 : ∀ i, i < 32 → xb_bt (-1) i = true := by decide +kernel
theorem xb_one : ∀ i, i < 32 → xb_bt 1 i = decide (i = 0) := by decide +kernel
theorem xb_0 (i : Nat) : xb_bt 0 i = false := BitVec.getLsbD_zero
theorem xb_sl : ∀ n, n < 32 → ((nI n &&& 31).toBitVec.smod 32).toNat = n := by decide +kernel
theorem xb_shl (n : Nat) (hn : n < 32) (x : Int32) {i : Nat} (hi : i < 32) : xb_bt (x <<< (nI n &&& 31)) i = (decide (n ≤ i) && xb_bt x (i - n)) := by
  unfold xb_bt
  rw [Int32.toBitVec_shiftLeft]
  show (x.toBitVec <<< ((nI n &&& 31).toBitVec.smod 32).toNat).getLsbD i = _
  rw [xb_sl n hn, BitVec.getLsbD_shiftLeft]
  rcases Nat.lt_or_ge i n with h | h
  · simp [h, Nat.not_le.mpr h]
  · simp [hi, h, Nat.not_lt.mpr h]
theorem xb_sshr (n : Nat) (hn : n < 32) (x : Int32) {i : Nat} (hi : i < 32) : xb_bt (x >>> (nI n &&& 31)) i = if n + i < 32 then xb_bt x (n + i) else xb_bt x 31 := by
  unfold xb_bt
  rw [Int32.toBitVec_shiftRight]
  show (x.toBitVec.sshiftRight ((nI n &&& 31).toBitVec.smod 32).toNat).getLsbD i = _
  rw [xb_sl n hn, BitVec.getLsbD_sshiftRight, BitVec.msb_eq_getLsbD_last]
  simp [hi]
/-- the program's test of one bit -/
theorem xb_test (m : Int32) {i : Nat} (h : i < 32) : ((m >>> (nI i &&& 31)) &&& 1) = 1 ↔ xb_bt m i = true := by
  have e0 : xb_bt ((m >>> (nI i &&& 31)) &&& 1) 0 = xb_bt m i := by
    rw [xb_and, xb_sshr i h m (show 0 < 32 by omega), xb_one 0 (by omega), if_pos (by omega)]
    simp
  constructor
  · intro g
    rw [← e0, g]; decide
  · intro g
    apply xb_ext
    intro j hj
    rw [xb_and, xb_one j hj]
    by_cases z : j = 0
    · subst z
      rw [xb_sshr i h m (show 0 < 32 by omega), if_pos (by omega)]
      simpa using g
    · simp [z]
/-- setting a bit -/
theorem xb_set (m : Int32) {d i : Nat} (hd : d < 32) (hi : i < 32) : xb_bt (m ||| ((1 : Int32) <<< (nI d &&& 31))) i = (xb_bt m i || decide (i = d)) := by
  rw [xb_or, xb_shl d hd 1 hi, xb_one (i - d) (by omega)]
  by_cases z : i = d
  · subst z; simp
  · by_cases y : d ≤ i
    · simp [y, z, show ¬ i - d = 0 by omega]
    · simp [y, z]
/-- nothing new -/
theorem xb_sub {s w : Int32} (h : (s &&& (w ^^^ (-1))) = 0) {i : Nat} (hi : i < 32) (g : xb_bt s i = true) : xb_bt w i = true := by
  have e : xb_bt (s &&& (w ^^^ (-1))) i = false := by rw [h]; exact xb_0 i
  rw [xb_and, xb_xor, xb_m1 i hi, g] at e
  simpa using e
theorem xb_1shl {d i : Nat} (hd : d < 32) (hi : i < 32) : xb_bt ((1 : Int32) <<< (nI d &&& 31)) i = decide (i = d) := by
  have e := xb_set 0 hd hi
  rw [xb_or, xb_0] at e
  simpa using e
theorem xb_0or (x : Int32) : 0 ||| x = x := by
  apply xb_ext
  intro i _
  rw [xb_or, xb_0]; simp
theorem xb_and15 (x : Int32) : ∃ j : Nat, j < 16 ∧ x &&& 15 = nI j := pk_andE x 4 (by decide)

/-! sums of naturals, change of one place -/
def ux_up {α : Type} (f : Nat → α) (k : Nat) (v : α) : Nat → α := fun j => if j = k then v else f j
theorem ux_s {α : Type} (f : Nat → α) (k : Nat) (v : α) : ux_up f k v k = v := if_pos rfl
theorem ux_n {α : Type} (f : Nat → α) {k j : Nat} (v : α) (h : j ≠ k) : ux_up f k v j = f j := if_neg h
theorem ux_e {α : Type} (f : Nat → α) (k j : Nat) (v : α) : ux_up f k v j = if j = k then v else f j := rfl
theorem uy_e (f : Nat → Int32) (k j : Nat) (v : Int32) : upd f k v j = if j = k then v else f j := rfl
def sm_s (f : Nat → Nat) : Nat → Nat
  | 0 => 0
  | t + 1 => sm_s f t + f t
theorem sm_eq {f g : Nat → Nat} : ∀ N : Nat, (∀ t, t < N → f t = g t) → sm_s f N = sm_s g N
  | 0, _ => rfl
  | N + 1, h => by
    show sm_s f N + f N = sm_s g N + g N
    rw [sm_eq N (fun t ht => h t (by omega)), h N (by omega)]
theorem sm_hi (f : Nat → Nat) (t v : Nat) : ∀ N : Nat, N ≤ t → sm_s (ux_up f t v) N = sm_s f N :=
  fun N h => sm_eq N (fun s hs => ux_n f v (by omega))
theorem sm_up (f : Nat → Nat) (t v : Nat) : ∀ N : Nat, t < N → sm_s (ux_up f t v) N + f t = sm_s f N + v
  | 0, h => absurd h (by omega)
  | N + 1, h => by
    show sm_s (ux_up f t v) N + ux_up f t v N + f t = sm_s f N + f N + v
    by_cases e : t = N
    · subst e
      rw [sm_hi f t v t (Nat.le_refl t), ux_s]; omega
    · have := sm_up f t v N (by omega)
      rw [ux_n f v (show N ≠ t by omega)]; omega
theorem sm_le {f g : Nat → Nat} {x : Nat} : ∀ N : Nat, (∀ t, t < N → g t ≤ f t + x) → sm_s g N ≤ sm_s f N + N * x
  | 0, _ => by simp [sm_s]
  | N + 1, h => by
    show sm_s g N + g N ≤ sm_s f N + f N + (N + 1) * x
    have h1 := sm_le N (fun t ht => h t (by omega))
    have h2 := h N (by omega)
    rw [Nat.succ_mul]; omega
theorem sm_get (f : Nat → Nat) {t : Nat} : ∀ N : Nat, t < N → f t ≤ sm_s f N
  | 0, h => absurd h (by omega)
  | N + 1, h => by
    show f t ≤ sm_s f N + f N
    by_cases e : t = N
    · subst e; omega
    · have := sm_get f N (show t < N by omega); omega
end
section
/-! the newest transaction before t with a version of a cell (0: none, f + 1: f) -/
def nb_n (a8 : Nat → Int32) (c : Nat) : Nat → Nat
  | 0 => 0
  | t + 1 => if xb_bt (a8 t) c = true then t + 1 else nb_n a8 c t
def nb_I : Nat → Int32
  | 0 => -1
  | f + 1 => nI f
theorem nb_s (a8 : Nat → Int32) (c t : Nat) : nb_n a8 c (t + 1) = if xb_bt (a8 t) c = true then t + 1 else nb_n a8 c t := rfl
theorem nb_le (a8 : Nat → Int32) (c : Nat) : ∀ t, nb_n a8 c t ≤ t
  | 0 => Nat.le_refl 0
  | t + 1 => by
    have := nb_le a8 c t
    rw [nb_s]; split <;> omega
theorem nb_bit {a8 : Nat → Int32} {c f : Nat} : ∀ {t : Nat}, nb_n a8 c t = f + 1 → xb_bt (a8 f) c = true
  | 0, h => by simp [nb_n] at h
  | t + 1, h => by
    rw [nb_s] at h
    by_cases z : xb_bt (a8 t) c = true
    · rw [if_pos z] at h
      have : t = f := by omega
      rw [← this]; exact z
    · rw [if_neg z] at h; exact nb_bit h
theorem nb_eq {a8 a8' : Nat → Int32} {c : Nat} : ∀ {t : Nat}, (∀ s, s < t → xb_bt (a8' s) c = xb_bt (a8 s) c) → nb_n a8' c t = nb_n a8 c t
  | 0, _ => rfl
  | t + 1, h => by rw [nb_s, nb_s, h t (by omega), nb_eq (t := t) (fun s hs => h s (by omega))]
theorem nb_shr {a8 a8' : Nat → Int32} {c : Nat} : ∀ {t : Nat}, (∀ s, s < t → xb_bt (a8' s) c = true → xb_bt (a8 s) c = true) → (∀ f, nb_n a8 c t = f + 1 → xb_bt (a8' f) c = true) → nb_n a8' c t = nb_n a8 c t
  | 0, _, _ => rfl
  | t + 1, h, hr => by
    rw [nb_s] at hr
    rw [nb_s, nb_s]
    by_cases z : xb_bt (a8 t) c = true
    · rw [if_pos z] at hr ⊢
      rw [if_pos (hr t rfl)]
    · rw [if_neg z] at hr ⊢
      rw [if_neg (fun y => z (h t (by omega) y))]
      exact nb_shr (t := t) (fun s hs => h s (by omega)) hr

/-! one transaction by itself: position, registers, mask and values of its stores, failing, reads (count, cells), outs (count, values) -/
abbrev LX_S : Type := Nat × (Nat → Int32) × Int32 × (Nat → Int32) × Int32 × Nat × (Nat → Nat) × Nat × (Nat → Int32)
def lx_rd (cc x : Nat) (rv : Nat → Int32) (ps : Nat) (rg : Nat → Int32) (ma : Int32) (sv : Nat → Int32) (fl : Int32) (rc : Nat) (cl : Nat → Nat) (oc : Nat) (ou : Nat → Int32) : LX_S :=
  if xb_bt ma cc = true then (ps + 1, upd rg x (sv cc), ma, sv, fl, rc, cl, oc, ou)
  else (ps + 1, upd rg x (rv rc), ma, sv, fl, rc + 1, ux_up cl rc cc, oc, ou)
def lx_cm (o u rx ry : Int32) : Int32 := if o = 0 then u else if o = 1 then rx + ry else if o = 2 then rx - ry else rx * ry
def lx_op (o u : Int32) (x y : Nat) (rv : Nat → Int32) (ps : Nat) (rg : Nat → Int32) (ma : Int32) (sv : Nat → Int32) (fl : Int32) (rc : Nat) (cl : Nat → Nat) (oc : Nat) (ou : Nat → Int32) : LX_S :=
  if o ≤ 2 ∨ o = 5 then (ps + 1, upd rg x (lx_cm o u (rg x) (rg y)), ma, sv, fl, rc, cl, oc, ou)
  else if o = 3 then lx_rd (u &&& 15).toNatClampNeg x rv ps rg ma sv fl rc cl oc ou
  else if o = 9 then lx_rd (rg y &&& 15).toNatClampNeg x rv ps rg ma sv fl rc cl oc ou
  else if o = 4 then (ps + 1, rg, ma ||| ((1 : Int32) <<< ((u &&& 15) &&& 31)), upd sv (u &&& 15).toNatClampNeg (rg x), fl, rc, cl, oc, ou)
  else if o = 10 then (ps + 1, rg, ma ||| ((1 : Int32) <<< ((rg y &&& 15) &&& 31)), upd sv (rg y &&& 15).toNatClampNeg (rg x), fl, rc, cl, oc, ou)
  else if o = 8 then (ps + 1, rg, ma, sv, fl, rc, cl, oc + 1, upd ou oc (rg x))
  else if o = 6 then (if rg y ≤ rg x then ps + 1 else ps + 2, rg, ma, sv, fl, rc, cl, oc, ou)
  else if o = 7 ∧ ¬ u ≤ rg x then (12, rg, ma, sv, 1, rc, cl, oc, ou)
  else if o = 11 then (12, rg, ma, sv, fl, rc, cl, oc, ou)
  else (ps + 1, rg, ma, sv, fl, rc, cl, oc, ou)
def lx_x (p : Int32) : Nat := (p >>> ((2 : Int32) &&& 31)).toNatClampNeg
def lx_y (p : Int32) : Nat := (p &&& 3).toNatClampNeg
def lx_st (ln : Nat → Nat) (a3 a4 a5 : Nat → Int32) (t : Nat) (rv : Nat → Int32) (L : LX_S) : LX_S :=
  match L with
  | (ps, rg, ma, sv, fl, rc, cl, oc, ou) =>
    if ps < ln t then lx_op (a3 (12 * t + ps)) (a5 (12 * t + ps)) (lx_x (a4 (12 * t + ps))) (lx_y (a4 (12 * t + ps))) rv ps rg ma sv fl rc cl oc ou
    else (ps, rg, ma, sv, fl, rc, cl, oc, ou)
def lx_it (ln : Nat → Nat) (a3 a4 a5 : Nat → Int32) (t : Nat) (rv : Nat → Int32) : Nat → LX_S
  | 0 => (0, fun _ => 0, 0, fun _ => 0, 0, 0, fun _ => 0, 0, fun _ => 0)
  | m + 1 => lx_st ln a3 a4 a5 t rv (lx_it ln a3 a4 a5 t rv m)

/-! control -/
def ct_tn (n q : Nat) (a10 : Nat → Int32) (tn : Nat → Nat) : Prop := ∀ t, t < n → a10 t = nI (tn t) ∧ tn t ≤ q
def ct_tk (n W : Nat) (a19 a20 : Nat → Int32) (tk : Nat → Nat) : Prop := ∀ w, w < 6 → a19 w ≠ 0 → w < W ∧ a20 w = nI (tk w) ∧ tk w < n
def ct_s4 (n : Nat) (a9 a19 : Nat → Int32) : Prop := (∀ t, t < n → a9 t = 0 ∨ a9 t = 1 ∨ a9 t = 2 ∨ a9 t = 3) ∧ ∀ w, w < 6 → a19 w = 0 ∨ a19 w = 1 ∨ a19 w = 2
def ct_rd (n c : Nat) (a9 : Nat → Int32) : Prop := ∀ t, t < n → a9 t = 0 → c ≤ t
def ct_o1 (n : Nat) (a9 a19 : Nat → Int32) (tk ow : Nat → Nat) : Prop := ∀ t, t < n → a9 t = 1 → ow t < 6 ∧ a19 (ow t) = 1 ∧ tk (ow t) = t
def ct_o2 (a9 a19 : Nat → Int32) (tk ow : Nat → Nat) : Prop := ∀ w, w < 6 → a19 w = 1 → a9 (tk w) = 1 ∧ ow (tk w) = w
def ct_w1 (n : Nat) (a9 a11 : Nat → Int32) (wf : Nat → Nat) : Prop := ∀ t, t < n → a9 t = 3 → wf t < t ∧ xb_bt (a11 (wf t)) t = true ∧ a9 (wf t) ≠ 2
def ct_w2 (n : Nat) (a9 a11 : Nat → Int32) (wf : Nat → Nat) : Prop := ∀ f, f < 8 → ∀ d, d < 8 → xb_bt (a11 f) d = true → d < n ∧ a9 d = 3 ∧ wf d = f
def ct_pc (n k : Nat) (a9 a10 a19 a21 : Nat → Int32) (tk pw : Nat → Nat) (R : Nat → Prop) : Prop := ∀ t, t < n → a9 t = 2 → R t ∨ k ≤ t ∨ (pw t < 6 ∧ a19 (pw t) = 2 ∧ tk (pw t) = t ∧ a21 (pw t) = a10 t)
def ct_bu (n : Nat) (a9 : Nat → Int32) (b : Nat → Nat) (R : Nat → Prop) : Prop := ∀ t, t < n → 2 * sm_s b t ≤ b t ∧ (a9 t ≠ 2 → 2 * sm_s b t + 1 ≤ b t) ∧ (a9 t = 2 → ¬ R t → 2 * sm_s b t + 2 ≤ b t) ∧ (a9 t = 1 → ¬ R t → 2 * sm_s b t + 3 ≤ b t)
def ct_ml (n : Nat) (a9 a19 a22 : Nat → Int32) (tk l cf : Nat → Nat) : Prop := (∀ t, t < n → a9 t = 0 → 15 ≤ l t) ∧ (∀ w, w < 6 → a19 w = 1 → 14 ≤ l (tk w) + (a22 w).toNatClampNeg) ∧ ∀ w, w < 6 → a19 w = 2 → 1 ≤ cf w
def ct_me (Φ c k : Nat) (b l cf : Nat → Nat) : Prop := 80 * sm_s b 4 + sm_s l 4 + sm_s cf 6 + 2 * (4 - k) + (4 - c) ≤ Φ
def ct_a (n W q Φ c k : Nat) (a9 a10 a11 a19 a20 a21 a22 : Nat → Int32) (R : Nat → Prop) (tn tk ow wf pw b l cf : Nat → Nat) : Prop :=
  n ≤ 4 ∧ W ≤ 6 ∧ c ≤ n ∧ k ≤ n ∧ (ct_tn n q a10 tn) ∧ (ct_tk n W a19 a20 tk) ∧ (ct_s4 n a9 a19) ∧ (ct_rd n c a9) ∧ (ct_o1 n a9 a19 tk ow) ∧ (ct_o2 a9 a19 tk ow) ∧ (ct_w1 n a9 a11 wf) ∧ (ct_w2 n a9 a11 wf) ∧ (ct_pc n k a9 a10 a19 a21 tk pw R) ∧ (ct_bu n a9 b R) ∧ (ct_ml n a9 a19 a22 tk l cf) ∧ (ct_me Φ c k b l cf)

/-! values -/
def rh_h (a7 a8 a9 : Nat → Int32) (rc : Nat → Nat) (rl rf rt : Nat → Nat → Nat) (t : Nat) : Prop := ∀ j, j < rc t → nb_n a8 (rl t j) t = rf t j ∧ ∀ f, rf t j = f + 1 → a9 f = 2 ∧ a7 (8 * rl t j + f) = nI (rt t j)
def vr_v (t : Nat) (tn : Nat → Nat) (a1 a6 a7 a9 : Nat → Int32) (rl rf rt : Nat → Nat → Nat) (rv : Nat → Nat → Int32) (j : Nat) : Prop := (rf t j = 0 → rv t j = a1 (rl t j)) ∧ ∀ f, rf t j = f + 1 → rt t j ≤ tn f ∧ (a9 f ≠ 2 → rt t j < tn f) ∧ (a7 (8 * rl t j + f) = nI (rt t j) → a6 (8 * rl t j + f) = rv t j)
def vr_a (t : Nat) (a12 a13 a14 a15 : Nat → Int32) (rc : Nat → Nat) (rl rf rt : Nat → Nat → Nat) : Prop := a12 t = nI (rc t) ∧ rc t ≤ 12 ∧ ∀ j, j < rc t → rl t j < 16 ∧ a13 (12 * t + j) = nI (rl t j) ∧ a14 (12 * t + j) = nb_I (rf t j) ∧ a15 (12 * t + j) = nI (rt t j) ∧ rf t j ≤ t
def vr_r (n : Nat) (tn : Nat → Nat) (a1 a6 a7 a9 a12 a13 a14 a15 : Nat → Int32) (rc : Nat → Nat) (rl rf rt : Nat → Nat → Nat) (rv : Nat → Nat → Int32) : Prop := ∀ t, t < n → (a9 t = 1 ∨ a9 t = 2) → (vr_a t a12 a13 a14 a15 rc rl rf rt) ∧ ∀ j, j < rc t → (vr_v t tn a1 a6 a7 a9 rl rf rt rv j)
def vr_s (n : Nat) (tn : Nat → Nat) (a7 a8 a9 : Nat → Int32) : Prop := ∀ f, f < n → ∀ c, c < 16 → xb_bt (a8 f) c = true → ∃ r, a7 (8 * c + f) = nI r ∧ r ≤ tn f ∧ (a9 f ≠ 2 → r < tn f)
def vx_2 (ln : Nat → Nat) (a3 a4 a5 a17 a18 a22 a23 a24 a25 a26 : Nat → Int32) (rc : Nat → Nat) (rl : Nat → Nat → Nat) (rv : Nat → Nat → Int32) (w t m ps : Nat) (rg : Nat → Int32) (ma : Int32) (sv : Nat → Int32) (fl : Int32) (cl : Nat → Nat) (oc : Nat) (ou : Nat → Int32) : Prop := lx_it ln a3 a4 a5 t (rv t) m = (ps, rg, ma, sv, fl, rc t, cl, oc, ou) ∧ m ≤ ps ∧ m ≤ 12 ∧ ps ≤ 13 ∧ a22 w = nI ps ∧ (∀ r, r < 4 → a23 (4 * w + r) = rg r) ∧ a24 w = ma ∧ (∀ c, c < 16 → xb_bt ma c = true → a25 (16 * w + c) = sv c) ∧ a26 w = fl ∧ (∀ j, j < rc t → rl t j = cl j) ∧ a17 t = nI oc ∧ (∀ j, j < oc → a18 (12 * t + j) = ou j)
def vx_1 (ln : Nat → Nat) (a3 a4 a5 a17 a18 a22 a23 a24 a25 a26 : Nat → Int32) (rc : Nat → Nat) (rl : Nat → Nat → Nat) (rv : Nat → Nat → Int32) (w t : Nat) : Prop := ∃ m ps rg ma sv fl cl oc ou, (vx_2 ln a3 a4 a5 a17 a18 a22 a23 a24 a25 a26 rc rl rv w t m ps rg ma sv fl cl oc ou)
def vx_w (ln : Nat → Nat) (a3 a4 a5 a17 a18 a19 a22 a23 a24 a25 a26 : Nat → Int32) (rc : Nat → Nat) (rl : Nat → Nat → Nat) (rv : Nat → Nat → Int32) (tk : Nat → Nat) : Prop := ∀ w, w < 6 → a19 w = 1 → (vx_1 ln a3 a4 a5 a17 a18 a22 a23 a24 a25 a26 rc rl rv w (tk w))
def vx_d (ln : Nat → Nat) (a3 a4 a5 a6 a8 a16 a17 a18 : Nat → Int32) (rc : Nat → Nat) (rl : Nat → Nat → Nat) (rv : Nat → Nat → Int32) (t : Nat) : Prop := ∃ ps rg ma sv fl cl oc ou, lx_it ln a3 a4 a5 t (rv t) 13 = (ps, rg, ma, sv, fl, rc t, cl, oc, ou) ∧ (fl = 0 ∨ fl = 1) ∧ (∀ j, j < rc t → rl t j = cl j) ∧ a16 t = fl ∧ a17 t = nI oc ∧ oc ≤ 12 ∧ (∀ j, j < oc → a18 (12 * t + j) = ou j) ∧ a8 t = (if fl = 0 then ma else 0) ∧ ∀ c, c < 16 → xb_bt (a8 t) c = true → a6 (8 * c + t) = sv c
def vx_e (n : Nat) (ln : Nat → Nat) (a3 a4 a5 a6 a8 a9 a16 a17 a18 : Nat → Int32) (rc : Nat → Nat) (rl : Nat → Nat → Nat) (rv : Nat → Nat → Int32) : Prop := ∀ t, t < n → a9 t = 2 → (vx_d ln a3 a4 a5 a6 a8 a16 a17 a18 rc rl rv t)
def vx_a (n : Nat) (ln : Nat → Nat) (a1 a3 a4 a5 a6 a7 a8 a9 a12 a13 a14 a15 a16 a17 a18 a19 a22 a23 a24 a25 a26 : Nat → Int32) (tn tk rc : Nat → Nat) (rl rf rt : Nat → Nat → Nat) (rv : Nat → Nat → Int32) : Prop := (vr_r n tn a1 a6 a7 a9 a12 a13 a14 a15 rc rl rf rt rv) ∧ (vr_s n tn a7 a8 a9) ∧ (vx_w ln a3 a4 a5 a17 a18 a19 a22 a23 a24 a25 a26 rc rl rv tk) ∧ (vx_e n ln a3 a4 a5 a6 a8 a9 a16 a17 a18 rc rl rv)
end
section
section
variable {n W q Φ c k : Nat} {a9 a10 a11 a19 a20 a21 a22 : Nat → Int32} {R : Nat → Prop} {tn tk ow wf pw b l cf : Nat → Nat} {w : Nat}
/-- an idle worker takes the check of an executed transaction -/
theorem cs_1 (H : (ct_a n W q Φ c k a9 a10 a11 a19 a20 a21 a22 R tn tk ow wf pw b l cf)) (hw : w < W) (h0 : a19 w = 0) (hkn : k < n) (hx : a9 k = 2) :
    1 ≤ Φ ∧ (ct_a n W (q+1) (Φ-1) c (k+1) a9 a10 a11 (upd a19 w 2) (upd a20 w (nI k)) (upd a21 w (a10 k)) a22 R tn (ux_up tk w k) ow wf (ux_up pw k w) b l (ux_up cf w 1)) := by
  obtain ⟨hn, hW, hc, hk, htn, htk, hs4, hrd, ho1, ho2, hw1, hw2, hpc, hbu, hml, hme⟩ := H
  have e := sm_up cf w 1 6 (by omega)
  unfold ct_me at hme
  refine ⟨by omega, hn, hW, hc, by omega, ?_, ?_, ?_, hrd, ?_, ?_, hw1, hw2, ?_, hbu, ?_, ?_⟩
  · intro t ht; have := htn t ht; exact ⟨this.1, by omega⟩
  · unfold ct_tk at htk ⊢
    intro v hv; simp only [uy_e, ux_e]; grind
  · unfold ct_s4 at hs4 ⊢
    refine ⟨hs4.1, fun v hv => ?_⟩
    simp only [uy_e]; grind
  · unfold ct_o1 at ho1 ⊢
    simp only [uy_e, ux_e]; grind
  · unfold ct_o2 at ho2 ⊢
    simp only [uy_e, ux_e]; grind
  · unfold ct_pc at hpc ⊢
    simp only [uy_e, ux_e]; grind
  · unfold ct_ml at hml ⊢
    simp only [uy_e, ux_e]; grind
  · unfold ct_me; omega
/-- an idle worker passes over a transaction that isn't executed -/
theorem cs_2 (H : (ct_a n W q Φ c k a9 a10 a11 a19 a20 a21 a22 R tn tk ow wf pw b l cf)) (hkn : k < n) (hx : a9 k ≠ 2) : 1 ≤ Φ ∧ (ct_a n W (q+1) (Φ-1) c (k+1) a9 a10 a11 a19 a20 a21 a22 R tn tk ow wf pw b l cf) := by
  obtain ⟨hn, hW, hc, hk, htn, htk, hs4, hrd, ho1, ho2, hw1, hw2, hpc, hbu, hml, hme⟩ := H
  unfold ct_me at hme
  refine ⟨by omega, hn, hW, hc, by omega, ?_, htk, hs4, hrd, ho1, ho2, hw1, hw2, ?_, hbu, hml, ?_⟩
  · intro t ht; have := htn t ht; exact ⟨this.1, by omega⟩
  · unfold ct_pc at hpc ⊢; grind
  · unfold ct_me; omega
/-- an idle worker passes over a transaction that isn't ready -/
theorem cs_4 (H : (ct_a n W q Φ c k a9 a10 a11 a19 a20 a21 a22 R tn tk ow wf pw b l cf)) (hcn : c < n) (hx : a9 c ≠ 0) : 1 ≤ Φ ∧ (ct_a n W (q+1) (Φ-1) (c+1) k a9 a10 a11 a19 a20 a21 a22 R tn tk ow wf pw b l cf) := by
  obtain ⟨hn, hW, hc, hk, htn, htk, hs4, hrd, ho1, ho2, hw1, hw2, hpc, hbu, hml, hme⟩ := H
  unfold ct_me at hme
  refine ⟨by omega, hn, hW, by omega, hk, ?_, htk, hs4, ?_, ho1, ho2, hw1, hw2, hpc, hbu, hml, ?_⟩
  · intro t ht; have := htn t ht; exact ⟨this.1, by omega⟩
  · unfold ct_rd at hrd ⊢; grind
  · unfold ct_me; omega
/-- nothing to do -/
theorem cs_0 (H : (ct_a n W q Φ c k a9 a10 a11 a19 a20 a21 a22 R tn tk ow wf pw b l cf)) : (ct_a n W (q+1) Φ c k a9 a10 a11 a19 a20 a21 a22 R tn tk ow wf pw b l cf) := by
  obtain ⟨hn, hW, hc, hk, htn, htk, hs4, hrd, ho1, ho2, hw1, hw2, hpc, hbu, hml, hme⟩ := H
  refine ⟨hn, hW, hc, hk, ?_, htk, hs4, hrd, ho1, ho2, hw1, hw2, hpc, hbu, hml, hme⟩
  intro t ht; have := htn t ht; exact ⟨this.1, by omega⟩
/-- an idle worker takes a ready transaction -/
theorem cs_3 {R' : Nat → Prop} (H : (ct_a n W q Φ c k a9 a10 a11 a19 a20 a21 a22 R tn tk ow wf pw b l cf)) (hw : w < W) (h0 : a19 w = 0) (hcn : c < n) (hx : a9 c = 0) (hR : ∀ t, t < n → t ≠ c → R t → R' t) (hR' : R' c) :
    1 ≤ Φ ∧ (ct_a n W (q+1) (Φ-1) (c+1) k (upd a9 c 1) a10 a11 (upd a19 w 1) (upd a20 w (nI c)) (upd a21 w (a10 c)) (upd a22 w 0) R' tn (ux_up tk w c) (ux_up ow c w) wf pw b l cf) := by
  obtain ⟨hn, hW, hc, hk, htn, htk, hs4, hrd, ho1, ho2, hw1, hw2, hpc, hbu, hml, hme⟩ := H
  unfold ct_me at hme
  refine ⟨by omega, hn, hW, by omega, hk, ?_, ?_, ?_, ?_, ?_, ?_, ?_, ?_, ?_, ?_, ?_, ?_⟩
  · intro t ht; have := htn t ht; exact ⟨this.1, by omega⟩
  · unfold ct_tk at htk ⊢
    simp only [uy_e, ux_e]; grind
  · unfold ct_s4 at hs4 ⊢
    simp only [uy_e, ux_e]; grind
  · unfold ct_rd at hrd ⊢
    simp only [uy_e, ux_e]; grind
  · unfold ct_o1 at ho1 ⊢
    unfold ct_o2 at ho2
    simp only [uy_e, ux_e]; grind
  · unfold ct_o2 at ho2 ⊢
    simp only [uy_e, ux_e]; grind
  · unfold ct_w1 at hw1 ⊢
    simp only [uy_e, ux_e]; grind
  · unfold ct_w2 at hw2 ⊢
    simp only [uy_e, ux_e]; grind
  · unfold ct_pc at hpc ⊢
    simp only [uy_e, ux_e]; grind
  · unfold ct_bu at hbu ⊢
    simp only [uy_e, ux_e]; grind
  · unfold ct_ml at hml ⊢
    have e0 : (0 : Int32).toNatClampNeg = 0 := sb_cl0
    unfold ct_tk at htk
    simp only [uy_e, ux_e]; grind
  · unfold ct_me; omega
end
end
section
section
variable {n W q Φ c k : Nat} {a9 a10 a11 a19 a20 a21 a22 : Nat → Int32} {R : Nat → Prop} {tn tk ow wf pw b l cf : Nat → Nat} {w : Nat}
/-- a check that finds nothing to do -/
theorem cs_6 (H : (ct_a n W q Φ c k a9 a10 a11 a19 a20 a21 a22 R tn tk ow wf pw b l cf)) (hw : w < 6) (h2 : a19 w = 2) (hx : a9 (tk w) = 2 → a10 (tk w) = a21 w → R (tk w)) :
    1 ≤ Φ ∧ (ct_a n W (q+1) (Φ-1) c k a9 a10 a11 (upd a19 w 0) a20 a21 a22 R tn tk ow wf pw b l (ux_up cf w 0)) := by
  obtain ⟨hn, hW, hc, hk, htn, htk, hs4, hrd, ho1, ho2, hw1, hw2, hpc, hbu, hml, hme⟩ := H
  have e := sm_up cf w 0 6 (by omega)
  have e1 := hml.2.2 w hw h2
  unfold ct_me at hme
  refine ⟨by omega, hn, hW, hc, hk, ?_, ?_, ?_, hrd, ?_, ?_, hw1, hw2, ?_, hbu, ?_, ?_⟩
  · intro t ht; have := htn t ht; exact ⟨this.1, by omega⟩
  · unfold ct_tk at htk ⊢
    simp only [uy_e, ux_e]; grind
  · unfold ct_s4 at hs4 ⊢
    simp only [uy_e]; grind
  · unfold ct_o1 at ho1 ⊢
    simp only [uy_e, ux_e]; grind
  · unfold ct_o2 at ho2 ⊢
    simp only [uy_e, ux_e]; grind
  · unfold ct_pc at hpc ⊢
    simp only [uy_e, ux_e]; grind
  · unfold ct_ml at hml ⊢
    simp only [uy_e, ux_e]; grind
  · unfold ct_me; omega
/-- a check that finds wrong reads: the transaction is to be carried out anew -/
theorem cs_7 {R' : Nat → Prop} {c' k' : Nat} (H : (ct_a n W q Φ c k a9 a10 a11 a19 a20 a21 a22 R tn tk ow wf pw b l cf)) (hw : w < 6) (h2 : a19 w = 2) (hx : a9 (tk w) = 2) (hnR : ¬ R (tk w)) (hR : ∀ s, s < tk w → R s → R' s)
    (hc1 : c' ≤ c) (hc2 : c' ≤ tk w) (hk1 : k' ≤ k) (hk2 : k' ≤ tk w + 1) :
    1 ≤ Φ ∧ (ct_a n W (q+1) (Φ-1) c' k' (upd a9 (tk w) 0) (upd a10 (tk w) (a10 (tk w) + 1)) a11 (upd a19 w 0) a20 a21 a22 R' (ux_up tn (tk w) (tn (tk w) + 1)) tk ow wf pw (ux_up b (tk w) (b (tk w) - 1)) (ux_up l (tk w) 15) (ux_up cf w 0)) := by
  obtain ⟨hn, hW, hc, hk, htn, htk, hs4, hrd, ho1, ho2, hw1, hw2, hpc, hbu, hml, hme⟩ := H
  have e := sm_up cf w 0 6 (by omega)
  have e1 := hml.2.2 w hw h2
  obtain ⟨t1, t2, t3⟩ := htk w hw (by rw [h2]; decide)
  have t4 : tk w < n := t3
  have B := (hbu (tk w) t3).2.2.1 hx hnR
  have e2 := sm_up b (tk w) (b (tk w) - 1) 4 (by omega)
  have e3 := sm_up l (tk w) 15 4 (by omega)
  unfold ct_me at hme
  refine ⟨by omega, hn, hW, by omega, by omega, ?_, ?_, ?_, ?_, ?_, ?_, ?_, ?_, ?_, ?_, ?_, ?_⟩
  · intro t ht
    have h := htn t ht
    simp only [uy_e, ux_e]
    by_cases z : t = tk w
    · rw [if_pos z, if_pos z]
      rw [z] at h
      exact ⟨by rw [h.1, nI_1], by omega⟩
    · rw [if_neg z, if_neg z]; exact ⟨h.1, by omega⟩
  · unfold ct_tk at htk ⊢
    simp only [uy_e, ux_e]; grind
  · unfold ct_s4 at hs4 ⊢
    simp only [uy_e]; grind
  · unfold ct_rd at hrd ⊢
    simp only [uy_e]; grind
  · unfold ct_o1 at ho1 ⊢
    simp only [uy_e, ux_e]; grind
  · unfold ct_o2 at ho2 ⊢
    simp only [uy_e, ux_e]; grind
  · unfold ct_w1 at hw1 ⊢
    simp only [uy_e]; grind
  · unfold ct_w2 at hw2 ⊢
    simp only [uy_e]; grind
  · unfold ct_pc at hpc ⊢
    simp only [uy_e, ux_e]; grind
  · intro s hs
    have h := hbu s hs
    simp only [uy_e]
    by_cases z : s = tk w
    · subst z
      rw [sm_hi b (tk w) _ (tk w) (Nat.le_refl _), ux_s, if_pos rfl]
      refine ⟨by omega, fun _ => by omega, fun y => absurd y (by decide), fun y => absurd y (by decide)⟩
    · rw [if_neg z, ux_n b _ z]
      by_cases y : s < tk w
      · rw [sm_hi b (tk w) _ s (by omega)]
        have := hR s y
        grind
      · have := sm_up b (tk w) (b (tk w) - 1) s (by omega)
        refine ⟨by omega, fun u => ?_, fun _ _ => by omega, fun u _ => ?_⟩
        · have := h.2.1 u; omega
        · have := h.2.1 (by rw [u]; decide); omega
  · unfold ct_ml at hml ⊢
    unfold ct_o2 at ho2
    simp only [uy_e, ux_e]; grind
  · unfold ct_me; omega
/-- one instruction of a worker's own -/
theorem cs_9 {R' : Nat → Prop} {p' : Int32} (H : (ct_a n W q Φ c k a9 a10 a11 a19 a20 a21 a22 R tn tk ow wf pw b l cf)) (hw : w < 6) (h1 : a19 w = 1) (hp : (a22 w).toNatClampNeg < p'.toNatClampNeg) (hp2 : (a22 w).toNatClampNeg < 12) (hR : ∀ s, s < n → R s → R' s) :
    1 ≤ Φ ∧ (ct_a n W (q+1) (Φ-1) c k a9 a10 a11 a19 a20 a21 (upd a22 w p') R' tn tk ow wf pw b (ux_up l (tk w) (l (tk w) - 1)) cf) := by
  obtain ⟨hn, hW, hc, hk, htn, htk, hs4, hrd, ho1, ho2, hw1, hw2, hpc, hbu, hml, hme⟩ := H
  obtain ⟨t1, t2, t3⟩ := htk w hw (by rw [h1]; decide)
  have e1 := hml.2.1 w hw h1
  have e3 := sm_up l (tk w) (l (tk w) - 1) 4 (by omega)
  unfold ct_me at hme
  refine ⟨by omega, hn, hW, hc, hk, ?_, htk, hs4, hrd, ho1, ho2, hw1, hw2, ?_, ?_, ?_, ?_⟩
  · intro t ht; have := htn t ht; exact ⟨this.1, by omega⟩
  · unfold ct_pc at hpc ⊢; grind
  · unfold ct_bu at hbu ⊢; grind
  · unfold ct_ml at hml ⊢
    unfold ct_o2 at ho2
    simp only [uy_e, ux_e]; grind
  · unfold ct_me; omega
/-- a worker's transaction has to wait -/
theorem cs_12 {R' : Nat → Prop} {f : Nat} {p' : Int32} {a11' : Nat → Int32} (H : (ct_a n W q Φ c k a9 a10 a11 a19 a20 a21 a22 R tn tk ow wf pw b l cf)) (hw : w < 6) (h1 : a19 w = 1) (hf : f < tk w) (hf2 : a9 f ≠ 2) (hp2 : (a22 w).toNatClampNeg < 12)
    (h11 : ∀ g d, g < 8 → d < 8 → (xb_bt (a11' g) d = true ↔ xb_bt (a11 g) d = true ∨ (g = f ∧ d = tk w))) (hR : ∀ s, s < n → R s → R' s) :
    1 ≤ Φ ∧ (ct_a n W (q+1) (Φ-1) c k (upd a9 (tk w) 3) a10 a11' (upd a19 w 0) a20 a21 (upd a22 w p') R' tn tk ow (ux_up wf (tk w) f) pw b (ux_up l (tk w) (l (tk w) - 1)) cf) := by
  obtain ⟨hn, hW, hc, hk, htn, htk, hs4, hrd, ho1, ho2, hw1, hw2, hpc, hbu, hml, hme⟩ := H
  obtain ⟨t1, t2, t3⟩ := htk w hw (by rw [h1]; decide)
  have e1 := hml.2.1 w hw h1
  have e3 := sm_up l (tk w) (l (tk w) - 1) 4 (by omega)
  obtain ⟨o1, o2⟩ := ho2 w hw h1
  unfold ct_me at hme
  refine ⟨by omega, hn, hW, hc, hk, ?_, ?_, ?_, ?_, ?_, ?_, ?_, ?_, ?_, ?_, ?_, ?_⟩
  · intro t ht; have := htn t ht; exact ⟨this.1, by omega⟩
  · unfold ct_tk at htk ⊢
    simp only [uy_e]; grind
  · unfold ct_s4 at hs4 ⊢
    simp only [uy_e]; grind
  · unfold ct_rd at hrd ⊢
    simp only [uy_e]; grind
  · unfold ct_o1 at ho1 ⊢
    simp only [uy_e]; grind
  · unfold ct_o2 at ho2 ⊢
    simp only [uy_e]; grind
  · intro s hs
    simp only [uy_e, ux_e]
    by_cases z : s = tk w
    · subst z
      rw [if_pos rfl, if_pos rfl, if_neg (by omega)]
      exact fun _ => ⟨hf, (h11 f (tk w) (by omega) (by omega)).mpr (Or.inr ⟨rfl, rfl⟩), hf2⟩
    · rw [if_neg z, if_neg z]
      intro y
      obtain ⟨y1, y2, y3⟩ := hw1 s hs y
      refine ⟨y1, (h11 (wf s) s (by omega) (by omega)).mpr (Or.inl y2), ?_⟩
      split
      · decide
      · exact y3
  · intro g hg d hd hb
    simp only [uy_e, ux_e]
    rcases (h11 g d hg hd).mp hb with y | ⟨y1, y2⟩
    · obtain ⟨z1, z2, z3⟩ := hw2 g hg d hd y
      have : d ≠ tk w := by
        intro z
        rw [z, o1] at z2
        exact absurd z2 (by decide)
      rw [if_neg this, if_neg this]
      exact ⟨z1, z2, z3⟩
    · rw [if_pos y2, if_pos y2]
      exact ⟨by omega, rfl, y1.symm⟩
  · unfold ct_pc at hpc ⊢
    simp only [uy_e]; grind
  · unfold ct_bu at hbu ⊢
    simp only [uy_e]; grind
  · unfold ct_ml at hml ⊢
    unfold ct_o2 at ho2
    simp only [uy_e, ux_e]; grind
  · unfold ct_me; omega
end
end
section
section
variable {n W q Φ c k : Nat} {a9 a10 a11 a19 a20 a21 a22 : Nat → Int32} {R : Nat → Prop} {tn tk ow wf pw b l cf : Nat → Nat} {w : Nat}
/-- what a finish does to states, turns and the first counter -/
def cf_s (c' : Nat) (a9' a10' : Nat → Int32) (c w : Nat) (a9 a10 a11 : Nat → Int32) (tk : Nat → Nat) : Prop :=
  (∀ d, d < 8 → a9' d = if d = tk w then 2 else if xb_bt (a11 (tk w)) d = true then 0 else a9 d) ∧
  (∀ d, d < 8 → a10' d = if xb_bt (a11 (tk w)) d = true then a10 d + 1 else a10 d) ∧
  c' ≤ c ∧ ∀ d, d < 8 → xb_bt (a11 (tk w)) d = true → c' ≤ d
theorem cs_8a {R' : Nat → Prop} {c' k' : Nat} {a9' a10' : Nat → Int32} (H : (ct_a n W q Φ c k a9 a10 a11 a19 a20 a21 a22 R tn tk ow wf pw b l cf)) (hw : w < 6) (h1 : a19 w = 1) (hs : cf_s c' a9' a10' c w a9 a10 a11 tk)
    (hR : ∀ s, s ≤ tk w → (a9 s = 1 ∨ a9 s = 2) → R s → R' s) (hk1 : k' ≤ k) (hk2 : k' ≤ tk w) :
    1 ≤ Φ ∧ (ct_a n W (q+1) (Φ-1) c' k' a9' a10' (upd a11 (tk w) 0) (upd a19 w 0) a20 a21 a22 R' (fun d => if xb_bt (a11 (tk w)) d = true then tn d + 1 else tn d) tk ow wf pw (ux_up b (tk w) (b (tk w) - 1)) (fun d => if xb_bt (a11 (tk w)) d = true then 15 else l d) cf) := by
  obtain ⟨hn, hW, hc, hk, htn, htk, hs4, hrd, ho1, ho2, hw1, hw2, hpc, hbu, hml, hme⟩ := H
  obtain ⟨h9, h10, hc1, hc2⟩ := hs
  obtain ⟨t1, t2, t3⟩ := htk w hw (by rw [h1]; decide)
  obtain ⟨o1, o2⟩ := ho2 w hw h1
  have B := (hbu (tk w) t3).2.1 (by rw [o1]; decide)
  have e2 := sm_up b (tk w) (b (tk w) - 1) 4 (by omega)
  have e3 : sm_s (fun d => if xb_bt (a11 (tk w)) d = true then 15 else l d) 4 ≤ sm_s l 4 + 4 * 15 := sm_le 4 (fun t _ => by split <;> omega)
  have wb : ∀ d, d < 8 → xb_bt (a11 (tk w)) d = true → d < n ∧ a9 d = 3 ∧ wf d = tk w := fun d hd hb => hw2 (tk w) (by omega) d hd hb
  have wn : xb_bt (a11 (tk w)) (tk w) ≠ true := by
    intro z
    have := (wb (tk w) (by omega) z).2.1
    rw [o1] at this
    exact absurd this (by decide)
  unfold ct_me at hme
  refine ⟨by omega, hn, hW, by omega, by omega, ?_, ?_, ?_, ?_, ?_, ?_, ?_, ?_, ?_, ?_, ?_, ?_⟩
  · intro t ht
    have h := htn t ht
    rw [h10 t (by omega)]
    dsimp only
    split
    · exact ⟨by rw [h.1, nI_1], by omega⟩
    · exact ⟨h.1, by omega⟩
  · unfold ct_tk at htk ⊢
    simp only [uy_e]; grind
  · refine ⟨fun t ht => ?_, fun v hv => ?_⟩
    · rw [h9 t (by omega)]
      have := hs4.1 t ht
      grind
    · have := hs4.2 v hv
      simp only [uy_e]; grind
  · intro t ht
    rw [h9 t (by omega)]
    have h := hrd t ht
    have h' := hc2 t (by omega)
    split
    · intro z; exact absurd z (by decide)
    · split
      · intro _; exact h' (by assumption)
      · intro z; have := h z; omega
  · intro t ht
    rw [h9 t (by omega)]
    split
    · intro z; exact absurd z (by decide)
    · split
      · intro z; exact absurd z (by decide)
      · intro z
        obtain ⟨z1, z2, z3⟩ := ho1 t ht z
        have : ow t ≠ w := by
          intro y
          rw [y] at z3
          omega
        simp only [uy_e]
        rw [if_neg this]
        exact ⟨z1, z2, z3⟩
  · intro v hv
    simp only [uy_e]
    split
    · intro z; exact absurd z (by decide)
    · intro z
      obtain ⟨z1, z2⟩ := ho2 v hv z
      obtain ⟨y1, y2, y3⟩ := htk v hv (by rw [z]; decide)
      refine ⟨?_, z2⟩
      rw [h9 (tk v) (by omega)]
      have n1 : tk v ≠ tk w := by
        intro u
        rw [u, o2] at z2
        omega
      rw [if_neg n1]
      have n2 : ¬ xb_bt (a11 (tk w)) (tk v) = true := by
        intro u
        have := (wb (tk v) (by omega) u).2.1
        rw [z1] at this
        exact absurd this (by decide)
      rw [if_neg n2]
      exact z1
  · intro t ht
    rw [h9 t (by omega)]
    split
    · intro z; exact absurd z (by decide)
    · split
      · intro z; exact absurd z (by decide)
      · rename_i n1 n2
        intro z
        obtain ⟨z1, z2, z3⟩ := hw1 t ht z
        have n3 : wf t ≠ tk w := by
          intro u
          rw [u] at z2
          exact n2 z2
        refine ⟨z1, ?_, ?_⟩
        · simp only [uy_e]
          rw [if_neg n3]
          exact z2
        · rw [h9 (wf t) (by omega), if_neg n3]
          split
          · decide
          · exact z3
  · intro f hf d hd
    simp only [uy_e]
    split
    · intro z; rw [xb_0] at z; exact absurd z (by decide)
    · rename_i n1
      intro z
      obtain ⟨z1, z2, z3⟩ := hw2 f hf d hd z
      refine ⟨z1, ?_, z3⟩
      have n2 : d ≠ tk w := by
        intro u
        rw [u, o1] at z2
        exact absurd z2 (by decide)
      have n3 : ¬ xb_bt (a11 (tk w)) d = true := by
        intro u
        have := (wb d hd u).2.2
        omega
      rw [h9 d hd, if_neg n2, if_neg n3]
      exact z2
  · intro t ht hx
    by_cases z : k' ≤ t
    · exact Or.inr (Or.inl z)
    · have z1 : t < tk w := by omega
      have z2 : ¬ xb_bt (a11 (tk w)) t = true := by
        intro u
        have u1 := wb t (by omega) u
        have u2 := (hw1 t ht u1.2.1).1
        omega
      rw [h9 t (by omega), if_neg (by omega), if_neg z2] at hx
      rcases hpc t ht hx with y | y | ⟨y1, y2, y3, y4⟩
      · exact Or.inl (hR t (by omega) (Or.inr hx) y)
      · exact Or.inr (Or.inl (by omega))
      · refine Or.inr (Or.inr ⟨y1, ?_, y3, ?_⟩)
        · simp only [uy_e]
          rw [if_neg (by intro u; rw [u, h1] at y2; exact absurd y2 (by decide))]
          exact y2
        · rw [h10 t (by omega), if_neg z2]
          exact y4
  · intro s hs
    have h := hbu s hs
    rw [h9 s (by omega)]
    by_cases z : s = tk w
    · subst z
      rw [sm_hi b (tk w) _ (tk w) (Nat.le_refl _), ux_s, if_pos rfl]
      refine ⟨by omega, fun y => absurd rfl y, fun _ y => ?_, fun y => absurd y (by decide)⟩
      have := h.2.2.2 o1 (fun u => y (hR _ (Nat.le_refl _) (Or.inl o1) u))
      omega
    · rw [if_neg z, ux_n b _ z]
      by_cases y : s < tk w
      · have z2 : ¬ xb_bt (a11 (tk w)) s = true := by
          intro u
          have u1 := wb s (by omega) u
          have u2 := (hw1 s hs u1.2.1).1
          omega
        rw [sm_hi b (tk w) _ s (by omega), if_neg z2]
        have := hR s (by omega)
        grind
      · have := sm_up b (tk w) (b (tk w) - 1) s (by omega)
        by_cases z2 : xb_bt (a11 (tk w)) s = true
        · rw [if_pos z2]
          have := (wb s (by omega) z2).2.1
          have := h.2.1 (by rw [this]; decide)
          refine ⟨by omega, fun u => by omega, fun u => absurd u (by decide), fun u => absurd u (by decide)⟩
        · rw [if_neg z2]
          refine ⟨by omega, fun u => ?_, fun _ _ => by omega, fun u _ => ?_⟩
          · have := h.2.1 u; omega
          · have := h.2.1 (by rw [u]; decide); omega
  · refine ⟨fun t ht => ?_, fun v hv => ?_, fun v hv => ?_⟩
    · rw [h9 t (by omega)]
      have := hml.1 t ht
      dsimp only
      split
      · intro z; exact absurd z (by decide)
      · split
        · intro _; omega
        · exact this
    · simp only [uy_e]
      split
      · intro z; exact absurd z (by decide)
      · intro z
        have z1 := hml.2.1 v hv z
        obtain ⟨y1, y2, y3⟩ := htk v hv (by rw [z]; decide)
        have z2 := (ho2 v hv z).1
        have n2 : ¬ xb_bt (a11 (tk w)) (tk v) = true := by
          intro u
          have := (wb (tk v) (by omega) u).2.1
          rw [z2] at this
          exact absurd this (by decide)
        rw [if_neg n2]
        exact z1
    · have := hml.2.2 v hv
      simp only [uy_e]
      split
      · intro z; exact absurd z (by decide)
      · exact this
  · unfold ct_me; omega
/-- the same, the worker checks its own transaction at once -/
theorem cs_8c {R' : Nat → Prop} {c' : Nat} {a9' a10' : Nat → Int32} (H : (ct_a n W q Φ c k a9 a10 a11 a19 a20 a21 a22 R tn tk ow wf pw b l cf)) (hw : w < 6) (h1 : a19 w = 1) (hs : cf_s c' a9' a10' c w a9 a10 a11 tk)
    (hR : ∀ s, s < n → (a9 s = 1 ∨ a9 s = 2) → R s → R' s) :
    1 ≤ Φ ∧ (ct_a n W (q+1) (Φ-1) c' k a9' a10' (upd a11 (tk w) 0) (upd (upd a19 w 0) w 2) (upd a20 w (nI (tk w))) (upd a21 w (a10' (tk w))) a22 R' (fun d => if xb_bt (a11 (tk w)) d = true then tn d + 1 else tn d) tk ow wf (ux_up pw (tk w) w) (ux_up b (tk w) (b (tk w) - 1)) (fun d => if xb_bt (a11 (tk w)) d = true then 15 else l d) (ux_up cf w 1)) := by
  have H0 := H
  obtain ⟨hn, hW, hc, hk, htn, htk, hs4, hrd, ho1, ho2, hw1, hw2, hpc, hbu, hml, hme⟩ := H
  obtain ⟨t1, t2, t3⟩ := htk w hw (by rw [h1]; decide)
  obtain ⟨_, j1, j2, j3, j4, jtn, jtk, js4, jrd, jo1, jo2, jw1, jw2, jpc, jbu, jml, jme⟩ := cs_8a (k' := 0) H0 hw h1 hs (fun s hs => hR s (by omega)) (by omega) (by omega)
  obtain ⟨o1, o2⟩ := ho2 w hw h1
  have e := sm_up cf w 1 6 (by omega)
  obtain ⟨h9, h10, hc1, hc2⟩ := hs
  have B := (hbu (tk w) t3).2.1 (by rw [o1]; decide)
  have e2 := sm_up b (tk w) (b (tk w) - 1) 4 (by omega)
  have e3 : sm_s (fun d => if xb_bt (a11 (tk w)) d = true then 15 else l d) 4 ≤ sm_s l 4 + 4 * 15 := sm_le 4 (fun t _ => by split <;> omega)
  have wb : ∀ d, d < 8 → xb_bt (a11 (tk w)) d = true → d < n ∧ a9 d = 3 ∧ wf d = tk w := fun d hd hb => hw2 (tk w) (by omega) d hd hb
  unfold ct_me at hme
  have uu : ∀ v, upd (upd a19 w 0) w 2 v = if v = w then 2 else a19 v := by
    intro v; simp only [uy_e]; split <;> rfl
  refine ⟨by omega, hn, hW, by omega, hk, jtn, ?_, ?_, jrd, ?_, ?_, jw1, jw2, ?_, jbu, ?_, ?_⟩
  · intro v hv
    rw [uu]
    simp only [uy_e]
    have := htk v hv
    grind
  · refine ⟨js4.1, fun v hv => ?_⟩
    rw [uu]
    have := hs4.2 v hv
    grind
  · intro t ht z
    obtain ⟨z1, z2, z3⟩ := jo1 t ht z
    simp only [uy_e] at z2
    rw [uu]
    grind
  · intro v hv
    rw [uu]
    have := jo2 v hv
    simp only [uy_e] at this
    grind
  · intro t ht hx
    by_cases z : t = tk w
    · subst z
      refine Or.inr (Or.inr ?_)
      rw [uu, ux_s, if_pos rfl]
      exact ⟨hw, rfl, rfl, pk_us⟩
    · rw [h9 t (by omega), if_neg z] at hx
      by_cases z2 : xb_bt (a11 (tk w)) t = true
      · rw [if_pos z2] at hx; exact absurd hx (by decide)
      · rw [if_neg z2] at hx
        rcases hpc t ht hx with y | y | ⟨y1, y2, y3, y4⟩
        · exact Or.inl (hR t ht (Or.inr hx) y)
        · exact Or.inr (Or.inl y)
        · refine Or.inr (Or.inr ?_)
          have n1 : pw t ≠ w := by intro u; rw [u, h1] at y2; exact absurd y2 (by decide)
          rw [ux_n pw w z, uu, if_neg n1, h10 t (by omega), if_neg z2]
          simp only [uy_e]
          rw [if_neg n1]
          exact ⟨y1, y2, y3, y4⟩
  · refine ⟨jml.1, fun v hv => ?_, fun v hv => ?_⟩
    · rw [uu]
      have := jml.2.1 v hv
      simp only [uy_e] at this
      grind
    · rw [uu]
      have := hml.2.2 v hv
      simp only [ux_e]
      grind
  · unfold ct_me; omega
end
end
section
section
variable {ln : Nat → Nat} {a3 a4 a5 : Nat → Int32} {t : Nat} {rv rv' : Nat → Int32}
/-- one step of a transaction by itself: what grows and by how much -/
theorem lx_mono {ps ps' : Nat} {rg rg' : Nat → Int32} {ma ma' : Int32} {sv sv' : Nat → Int32} {fl fl' : Int32} {rc rc' : Nat} {cl cl' : Nat → Nat} {oc oc' : Nat} {ou ou' : Nat → Int32}
    (h : lx_st ln a3 a4 a5 t rv (ps, rg, ma, sv, fl, rc, cl, oc, ou) = (ps', rg', ma', sv', fl', rc', cl', oc', ou')) :
    rc ≤ rc' ∧ rc' ≤ rc + 1 ∧ oc' ≤ oc + 1 ∧ ((fl = 0 ∨ fl = 1) → (fl' = 0 ∨ fl' = 1)) := by
  unfold lx_st at h
  dsimp only at h
  split at h
  · unfold lx_op lx_rd at h
    repeat' split at h
    all_goals
      simp only [Prod.mk.injEq] at h
      obtain ⟨h1, h2, h3, h4, h5, h6, h7, h8, h9⟩ := h
      subst h5 h6 h8
      refine ⟨by omega, by omega, by omega, ?_⟩
    all_goals first | exact fun z => z | exact fun _ => Or.inr rfl
  · simp only [Prod.mk.injEq] at h
    obtain ⟨h1, h2, h3, h4, h5, h6, h7, h8, h9⟩ := h
    subst h5 h6 h8
    exact ⟨by omega, by omega, by omega, fun z => z⟩
theorem lx_b : ∀ (m : Nat) {ps : Nat} {rg : Nat → Int32} {ma : Int32} {sv : Nat → Int32} {fl : Int32} {rc : Nat} {cl : Nat → Nat} {oc : Nat} {ou : Nat → Int32},
    lx_it ln a3 a4 a5 t rv m = (ps, rg, ma, sv, fl, rc, cl, oc, ou) → rc ≤ m ∧ oc ≤ m ∧ (fl = 0 ∨ fl = 1)
  | 0, ps, rg, ma, sv, fl, rc, cl, oc, ou, h => by
    simp only [lx_it, Prod.mk.injEq] at h
    obtain ⟨h1, h2, h3, h4, h5, h6, h7, h8, h9⟩ := h
    subst h5 h6 h8
    exact ⟨by omega, by omega, Or.inl rfl⟩
  | m + 1, ps, rg, ma, sv, fl, rc, cl, oc, ou, h => by
    rcases e : lx_it ln a3 a4 a5 t rv m with ⟨ps0, rg0, mk0, sv0, fl0, rc0, cl0, oc0, ou0⟩
    have h' : lx_st ln a3 a4 a5 t rv (lx_it ln a3 a4 a5 t rv m) = (ps, rg, ma, sv, fl, rc, cl, oc, ou) := h
    rw [e] at h'
    obtain ⟨x1, x2, x3⟩ := lx_b m e
    obtain ⟨y1, y2, y3, y4⟩ := lx_mono h'
    exact ⟨by omega, by omega, y4 x3⟩
/-- the values of reads that aren't made don't matter -/
theorem lx_stc {ps ps' : Nat} {rg rg' : Nat → Int32} {ma ma' : Int32} {sv sv' : Nat → Int32} {fl fl' : Int32} {rc rc' : Nat} {cl cl' : Nat → Nat} {oc oc' : Nat} {ou ou' : Nat → Int32}
    (h : lx_st ln a3 a4 a5 t rv (ps, rg, ma, sv, fl, rc, cl, oc, ou) = (ps', rg', ma', sv', fl', rc', cl', oc', ou')) (hv : ∀ j, j < rc' → rv' j = rv j) :
    lx_st ln a3 a4 a5 t rv' (ps, rg, ma, sv, fl, rc, cl, oc, ou) = (ps', rg', ma', sv', fl', rc', cl', oc', ou') := by
  rw [← h]
  unfold lx_st at h ⊢
  dsimp only at h ⊢
  by_cases z : ps < ln t
  · rw [if_pos z] at h ⊢
    rw [if_pos z]
    have key : ∀ cc x, lx_rd cc x rv ps rg ma sv fl rc cl oc ou = (ps', rg', ma', sv', fl', rc', cl', oc', ou') → lx_rd cc x rv' ps rg ma sv fl rc cl oc ou = lx_rd cc x rv ps rg ma sv fl rc cl oc ou := by
      intro cc x g
      unfold lx_rd at g ⊢
      split
      · rfl
      · rename_i y
        rw [if_neg y] at g
        simp only [Prod.mk.injEq] at g
        rw [hv rc (by omega)]
    unfold lx_op at h ⊢
    split
    · rfl
    · rename_i y1
      rw [if_neg y1] at h
      split
      · rename_i y2
        rw [if_pos y2] at h
        exact key _ _ h
      · rename_i y2
        rw [if_neg y2] at h
        split
        · rename_i y3
          rw [if_pos y3] at h
          exact key _ _ h
        · rfl
  · rw [if_neg z, if_neg z]
theorem lx_itc : ∀ (m : Nat) {ps : Nat} {rg : Nat → Int32} {ma : Int32} {sv : Nat → Int32} {fl : Int32} {rc : Nat} {cl : Nat → Nat} {oc : Nat} {ou : Nat → Int32},
    lx_it ln a3 a4 a5 t rv m = (ps, rg, ma, sv, fl, rc, cl, oc, ou) → (∀ j, j < rc → rv' j = rv j) → lx_it ln a3 a4 a5 t rv' m = (ps, rg, ma, sv, fl, rc, cl, oc, ou)
  | 0, ps, rg, ma, sv, fl, rc, cl, oc, ou, h, _ => h
  | m + 1, ps, rg, ma, sv, fl, rc, cl, oc, ou, h, hv => by
    rcases e : lx_it ln a3 a4 a5 t rv m with ⟨ps0, rg0, mk0, sv0, fl0, rc0, cl0, oc0, ou0⟩
    have h' : lx_st ln a3 a4 a5 t rv (lx_it ln a3 a4 a5 t rv m) = (ps, rg, ma, sv, fl, rc, cl, oc, ou) := h
    rw [e] at h'
    obtain ⟨y1, y2, y3, y4⟩ := lx_mono h'
    show lx_st ln a3 a4 a5 t rv' (lx_it ln a3 a4 a5 t rv' m) = _
    rw [lx_itc m e (fun j hj => hv j (by omega))]
    exact lx_stc h' hv
/-- an ended transaction stays as it is -/
theorem lx_end {m ps : Nat} {rg : Nat → Int32} {ma : Int32} {sv : Nat → Int32} {fl : Int32} {rc : Nat} {cl : Nat → Nat} {oc : Nat} {ou : Nat → Int32}
    (h : lx_it ln a3 a4 a5 t rv m = (ps, rg, ma, sv, fl, rc, cl, oc, ou)) (hp : ln t ≤ ps) : ∀ i, lx_it ln a3 a4 a5 t rv (m + i) = (ps, rg, ma, sv, fl, rc, cl, oc, ou)
  | 0 => h
  | i + 1 => by
    show lx_st ln a3 a4 a5 t rv (lx_it ln a3 a4 a5 t rv (m + i)) = _
    rw [lx_end h hp i]
    unfold lx_st
    dsimp only
    rw [if_neg (by omega)]
end
end
section
section
variable {n : Nat} {ln : Nat → Nat} {a1 a3 a4 a5 a6 a7 a8 a9 a12 a13 a14 a15 a16 a17 a18 a19 a22 a23 a24 a25 a26 : Nat → Int32} {tn tk rc : Nat → Nat} {rl rf rt : Nat → Nat → Nat} {rv : Nat → Nat → Int32} {w t : Nat} {a6' a7' a8' a9' a12' a13' a14' a15' a16' a17' a18' a19' a22' a23' a24' a25' a26' : Nat → Int32} {tn' tk' rc' : Nat → Nat} {rl' rf' rt' : Nat → Nat → Nat} {rv' : Nat → Nat → Int32}
theorem vg_1 (H : (vx_1 ln a3 a4 a5 a17 a18 a22 a23 a24 a25 a26 rc rl rv w t)) (h22 : a22' w = a22 w) (h23 : ∀ r, r < 4 → a23' (4 * w + r) = a23 (4 * w + r)) (h24 : a24' w = a24 w) (h25 : ∀ c, c < 16 → a25' (16 * w + c) = a25 (16 * w + c)) (h26 : a26' w = a26 w)
    (hrc : rc' t = rc t) (hrl : rl' t = rl t) (hrv : rv' t = rv t) (h17 : a17' t = a17 t) (h18 : ∀ j, j < 12 → a18' (12 * t + j) = a18 (12 * t + j)) :
    (vx_1 ln a3 a4 a5 a17' a18' a22' a23' a24' a25' a26' rc' rl' rv' w t) := by
  obtain ⟨m, ps, rg, ma, sv, fl, cl, oc, ou, e, x1, x2, x3, x4, x5, x6, x7, x8, x9, x10, x11⟩ := H
  obtain ⟨_, y, _⟩ := lx_b m e
  refine ⟨m, ps, rg, ma, sv, fl, cl, oc, ou, ?_, x1, x2, x3, ?_, ?_, ?_, ?_, ?_, ?_, ?_, ?_⟩
  · rw [hrv, hrc]; exact e
  · rw [h22]; exact x4
  · intro r hr; rw [h23 r hr]; exact x5 r hr
  · rw [h24]; exact x6
  · intro c hc hb; rw [h25 c hc]; exact x7 c hc hb
  · rw [h26]; exact x8
  · rw [hrc, hrl]; exact x9
  · rw [h17]; exact x10
  · intro j hj; rw [h18 j (by omega)]; exact x11 j hj
theorem vg_d (H : (vx_d ln a3 a4 a5 a6 a8 a16 a17 a18 rc rl rv t)) (h6 : ∀ c, c < 16 → xb_bt (a8 t) c = true → a6' (8 * c + t) = a6 (8 * c + t)) (h8 : a8' t = a8 t) (h16 : a16' t = a16 t) (h17 : a17' t = a17 t) (h18 : ∀ j, j < 12 → a18' (12 * t + j) = a18 (12 * t + j))
    (hrc : rc' t = rc t) (hrl : rl' t = rl t) (hrv : rv' t = rv t) :
    (vx_d ln a3 a4 a5 a6' a8' a16' a17' a18' rc' rl' rv' t) := by
  obtain ⟨ps, rg, ma, sv, fl, cl, oc, ou, e, x1, x2, x3, x4, x5, x6, x7, x8⟩ := H
  refine ⟨ps, rg, ma, sv, fl, cl, oc, ou, ?_, x1, ?_, ?_, ?_, x5, ?_, ?_, ?_⟩
  · rw [hrv, hrc]; exact e
  · rw [hrc, hrl]; exact x2
  · rw [h16]; exact x3
  · rw [h17]; exact x4
  · intro j hj; rw [h18 j (by omega)]; exact x6 j hj
  · rw [h8]; exact x7
  · intro c hc hb
    rw [h8] at hb
    rw [h6 c hc hb]; exact x8 c hc hb
theorem vg_a (H : (vr_a t a12 a13 a14 a15 rc rl rf rt)) (h12 : a12' t = a12 t) (h13 : ∀ j, j < 12 → a13' (12 * t + j) = a13 (12 * t + j)) (h14 : ∀ j, j < 12 → a14' (12 * t + j) = a14 (12 * t + j)) (h15 : ∀ j, j < 12 → a15' (12 * t + j) = a15 (12 * t + j))
    (hrc : rc' t = rc t) (hrl : rl' t = rl t) (hrf : rf' t = rf t) (hrt : rt' t = rt t) :
    (vr_a t a12' a13' a14' a15' rc' rl' rf' rt') := by
  obtain ⟨x1, x2, x3⟩ := H
  refine ⟨by rw [h12, hrc]; exact x1, by rw [hrc]; exact x2, ?_⟩
  rw [hrc]
  intro j hj
  rw [hrl, hrf, hrt, h13 j (by omega), h14 j (by omega), h15 j (by omega)]
  exact x3 j hj
/-- a worker's task changes to another than carrying out -/
theorem vt_1 (H : (vx_a n ln a1 a3 a4 a5 a6 a7 a8 a9 a12 a13 a14 a15 a16 a17 a18 a19 a22 a23 a24 a25 a26 tn tk rc rl rf rt rv)) (h : ∀ v, v < 6 → a19' v = 1 → a19 v = 1 ∧ tk' v = tk v) : (vx_a n ln a1 a3 a4 a5 a6 a7 a8 a9 a12 a13 a14 a15 a16 a17 a18 a19' a22 a23 a24 a25 a26 tn tk' rc rl rf rt rv) := by
  obtain ⟨hr, hs, hw, he⟩ := H
  refine ⟨hr, hs, ?_, he⟩
  intro v hv h1
  obtain ⟨y1, y2⟩ := h v hv h1
  rw [y2]
  exact hw v hv y1
/-- a worker begins to carry out -/
theorem vt_3 {c : Nat} (H : (vx_a n ln a1 a3 a4 a5 a6 a7 a8 a9 a12 a13 a14 a15 a16 a17 a18 a19 a22 a23 a24 a25 a26 tn tk rc rl rf rt rv)) (hcn : c < n) (hw : w < 6) (h9 : a9 c = 0) (ho : ∀ v, v < 6 → a19 v = 1 → tk v ≠ c) (h0 : a19 w = 0)
    (h23 : ∀ r, r < 4 → a23' (4 * w + r) = 0) (h23' : ∀ v, v ≠ w → ∀ r, r < 4 → a23' (4 * v + r) = a23 (4 * v + r)) :
    (vx_a n ln a1 a3 a4 a5 a6 a7 a8 (upd a9 c 1) (upd a12 c 0) a13 a14 a15 a16 (upd a17 c 0) a18 (upd a19 w 1) (upd a22 w 0) a23' (upd a24 w 0) a25 (upd a26 w 0) tn (ux_up tk w c) (ux_up rc c 0) rl rf rt rv) := by
  obtain ⟨hr, hs, hx, he⟩ := H
  refine ⟨?_, ?_, ?_, ?_⟩
  · intro t ht h
    by_cases z : t = c
    · subst z
      refine ⟨⟨?_, ?_, ?_⟩, ?_⟩
      · rw [ux_s]; exact pk_us
      · rw [ux_s]; omega
      · rw [ux_s]; intro j hj; omega
      · rw [ux_s]; intro j hj; omega
    · have h' : a9 t = 1 ∨ a9 t = 2 := by rw [pk_un z] at h; exact h
      obtain ⟨y1, y2⟩ := hr t ht h'
      refine ⟨vg_a y1 (pk_un z) (fun _ _ => rfl) (fun _ _ => rfl) (fun _ _ => rfl) (ux_n _ _ z) rfl rfl rfl, ?_⟩
      rw [ux_n _ _ z]
      intro j hj
      obtain ⟨z1, z2⟩ := y2 j hj
      refine ⟨z1, fun f hf => ?_⟩
      obtain ⟨u1, u2, u3⟩ := z2 f hf
      refine ⟨u1, fun v => u2 ?_, u3⟩
      intro g
      by_cases zz : f = c
      · rw [zz, h9] at g; exact absurd g (by decide)
      · rw [pk_un zz] at v; exact v g
  · intro f hf cc hcc hb
    obtain ⟨r, x1, x2, x3⟩ := hs f hf cc hcc hb
    refine ⟨r, x1, x2, fun v => x3 ?_⟩
    intro g
    by_cases zz : f = c
    · rw [zz, h9] at g; exact absurd g (by decide)
    · rw [pk_un zz] at v; exact v g
  · intro v hv h1
    by_cases z : v = w
    · subst z
      rw [ux_s]
      refine ⟨0, 0, fun _ => 0, 0, fun _ => 0, 0, fun _ => 0, 0, fun _ => 0, ?_, by omega, by omega, by omega, pk_us, h23, pk_us, ?_, pk_us, ?_, pk_us, ?_⟩
      · rw [ux_s]; rfl
      · intro cc hc hb; rw [xb_0] at hb; exact absurd hb (by decide)
      · rw [ux_s]; intro j hj; omega
      · intro j hj; omega
    · rw [pk_un z] at h1
      rw [ux_n _ _ z]
      have y := ho v hv h1
      exact vg_1 (hx v hv h1) (pk_un z) (h23' v z) (pk_un z) (fun _ _ => rfl) (pk_un z) (ux_n _ _ y) rfl rfl (pk_un y) (fun _ _ => rfl)
  · intro t ht h
    by_cases z : t = c
    · subst z; rw [pk_us] at h; exact absurd h (by decide)
    · rw [pk_un z] at h
      exact vg_d (he t ht h) (fun _ _ _ => rfl) rfl rfl (pk_un z) (fun _ _ => rfl) (ux_n _ _ z) rfl rfl
/-- a transaction is to be carried out anew -/
theorem vt_7 (H : (vx_a n ln a1 a3 a4 a5 a6 a7 a8 a9 a12 a13 a14 a15 a16 a17 a18 a19 a22 a23 a24 a25 a26 tn tk rc rl rf rt rv)) (h9 : a9 t = 2) (h : ∀ v, v < 6 → a19' v = 1 → a19 v = 1) : (vx_a n ln a1 a3 a4 a5 a6 a7 a8 (upd a9 t 0) a12 a13 a14 a15 a16 a17 a18 a19' a22 a23 a24 a25 a26 (ux_up tn t (tn t + 1)) tk rc rl rf rt rv) := by
  obtain ⟨hr, hs, hx, he⟩ := H
  refine ⟨?_, ?_, ?_, ?_⟩
  · intro s hs' h
    by_cases z : s = t
    · subst z; rw [pk_us] at h; exact absurd h (by decide)
    · rw [pk_un z] at h
      obtain ⟨y1, y2⟩ := hr s hs' h
      refine ⟨y1, fun j hj => ?_⟩
      obtain ⟨z1, z2⟩ := y2 j hj
      refine ⟨z1, fun f hf => ?_⟩
      obtain ⟨u1, u2, u3⟩ := z2 f hf
      simp only [uy_e, ux_e]
      by_cases zz : f = t
      · rw [if_pos zz, if_pos zz]
        rw [zz] at u1 u2 u3
        rw [zz]
        exact ⟨by omega, fun _ => by omega, u3⟩
      · rw [if_neg zz, if_neg zz]; exact ⟨u1, u2, u3⟩
  · intro f hf cc hcc hb
    obtain ⟨r, x1, x2, x3⟩ := hs f hf cc hcc hb
    simp only [uy_e, ux_e]
    by_cases zz : f = t
    · rw [if_pos zz, if_pos zz]
      rw [zz] at x2
      exact ⟨r, x1, by omega, fun _ => by omega⟩
    · rw [if_neg zz, if_neg zz]; exact ⟨r, x1, x2, x3⟩
  · intro v hv h1
    exact hx v hv (h v hv h1)
  · intro s hs' h
    by_cases z : s = t
    · subst z; rw [pk_us] at h; exact absurd h (by decide)
    · rw [pk_un z] at h; exact he s hs' h
/-- a transaction has to wait -/
theorem vt_12 {p' : Int32} (H : (vx_a n ln a1 a3 a4 a5 a6 a7 a8 a9 a12 a13 a14 a15 a16 a17 a18 a19 a22 a23 a24 a25 a26 tn tk rc rl rf rt rv)) (h9 : a9 t = 1) (ho : ∀ v, v < 6 → a19 v = 1 → v ≠ w → tk v ≠ t) : (vx_a n ln a1 a3 a4 a5 a6 a7 a8 (upd a9 t 3) a12 a13 a14 a15 a16 a17 a18 (upd a19 w 0) (upd a22 w p') a23 a24 a25 a26 tn tk rc rl rf rt rv) := by
  obtain ⟨hr, hs, hx, he⟩ := H
  refine ⟨?_, ?_, ?_, ?_⟩
  · intro s hs' h
    by_cases z : s = t
    · subst z; rw [pk_us] at h; exact absurd h (by decide)
    · rw [pk_un z] at h
      obtain ⟨y1, y2⟩ := hr s hs' h
      refine ⟨y1, fun j hj => ?_⟩
      obtain ⟨z1, z2⟩ := y2 j hj
      refine ⟨z1, fun f hf => ?_⟩
      obtain ⟨u1, u2, u3⟩ := z2 f hf
      refine ⟨u1, fun v => u2 ?_, u3⟩
      intro g
      by_cases zz : f = t
      · rw [zz, h9] at g; exact absurd g (by decide)
      · rw [pk_un zz] at v; exact v g
  · intro f hf cc hcc hb
    obtain ⟨r, x1, x2, x3⟩ := hs f hf cc hcc hb
    refine ⟨r, x1, x2, fun v => x3 ?_⟩
    intro g
    by_cases zz : f = t
    · rw [zz, h9] at g; exact absurd g (by decide)
    · rw [pk_un zz] at v; exact v g
  · intro v hv h1
    by_cases z : v = w
    · subst z; rw [pk_us] at h1; exact absurd h1 (by decide)
    · rw [pk_un z] at h1
      exact vg_1 (hx v hv h1) (pk_un z) (fun _ _ => rfl) rfl (fun _ _ => rfl) rfl rfl rfl rfl rfl (fun _ _ => rfl)
  · intro s hs' h
    by_cases z : s = t
    · subst z; rw [pk_us] at h; exact absurd h (by decide)
    · rw [pk_un z] at h; exact he s hs' h
/-- one instruction -/
theorem vt_9 (H : (vx_a n ln a1 a3 a4 a5 a6 a7 a8 a9 a12 a13 a14 a15 a16 a17 a18 a19 a22 a23 a24 a25 a26 tn tk rc rl rf rt rv)) (ht : tk w = t) (h9 : a9 t = 1) (ho : ∀ v, v < 6 → a19 v = 1 → v ≠ w → tk v ≠ t)
    (h1 : (vx_1 ln a3 a4 a5 a17' a18' a22' a23' a24' a25' a26' rc' rl' rv' w t))
    (h2 : (vr_a t a12' a13' a14' a15' rc' rl' rf' rt')) (h3 : ∀ j, j < rc' t → (vr_v t tn a1 a6 a7 a9 rl' rf' rt' rv' j))
    (hc : ∀ s, s < n → s ≠ t → rc' s = rc s ∧ rl' s = rl s ∧ rf' s = rf s ∧ rt' s = rt s ∧ rv' s = rv s ∧ a12' s = a12 s ∧ a17' s = a17 s ∧ ∀ j, j < 12 → a13' (12 * s + j) = a13 (12 * s + j) ∧ a14' (12 * s + j) = a14 (12 * s + j) ∧ a15' (12 * s + j) = a15 (12 * s + j) ∧ a18' (12 * s + j) = a18 (12 * s + j))
    (hv : ∀ v, v < 6 → v ≠ w → a22' v = a22 v ∧ a24' v = a24 v ∧ a26' v = a26 v ∧ (∀ r, r < 4 → a23' (4 * v + r) = a23 (4 * v + r)) ∧ ∀ c, c < 16 → a25' (16 * v + c) = a25 (16 * v + c)) (htk : ∀ v, v < 6 → a19 v = 1 → tk v < n) :
    (vx_a n ln a1 a3 a4 a5 a6 a7 a8 a9 a12' a13' a14' a15' a16 a17' a18' a19 a22' a23' a24' a25' a26' tn tk rc' rl' rf' rt' rv') := by
  obtain ⟨hr, hs, hx, he⟩ := H
  refine ⟨?_, hs, ?_, ?_⟩
  · intro s hs' h
    by_cases z : s = t
    · subst z; exact ⟨h2, h3⟩
    · obtain ⟨y1, y2⟩ := hr s hs' h
      obtain ⟨u1, u2, u3, u4, u5, u6, u7, u8⟩ := hc s hs' z
      refine ⟨vg_a y1 u6 (fun j hj => (u8 j hj).1) (fun j hj => (u8 j hj).2.1) (fun j hj => (u8 j hj).2.2.1) u1 u2 u3 u4, ?_⟩
      rw [u1]
      intro j hj
      have := y2 j hj
      unfold vr_v at this ⊢
      rw [u2, u3, u4, u5]
      exact this
  · intro v hv6 h1'
    by_cases z : v = w
    · subst z; rw [ht]; exact h1
    · obtain ⟨u1, u2, u3, u4, u5⟩ := hv v hv6 z
      obtain ⟨x1, x2, x3, x4, x5, x6, x7, x8⟩ := hc (tk v) (htk v hv6 h1') (ho v hv6 h1' z)
      exact vg_1 (hx v hv6 h1') u1 u4 u2 u5 u3 x1 x2 x5 x7 (fun j hj => (x8 j hj).2.2.2)
  · intro s hs' h
    have z : s ≠ t := by
      intro y; rw [y, h9] at h; exact absurd h (by decide)
    obtain ⟨x1, x2, x3, x4, x5, x6, x7, x8⟩ := hc s hs' z
    exact vg_d (he s hs' h) (fun _ _ _ => rfl) rfl rfl x7 (fun j hj => (x8 j hj).2.2.2) x1 x2 x5
end
end
section
section
variable {n : Nat} {ln : Nat → Nat} {a1 a3 a4 a5 a6 a7 a8 a9 a12 a13 a14 a15 a16 a17 a18 a19 a22 a23 a24 a25 a26 : Nat → Int32} {tn tk rc : Nat → Nat} {rl rf rt : Nat → Nat → Nat} {rv : Nat → Nat → Int32} {w t : Nat} {a6' a7' a8' a9' a16' a19' : Nat → Int32} {tn' : Nat → Nat}
/-- a transaction ends: its stores become versions -/
theorem vt_8 (H : (vx_a n ln a1 a3 a4 a5 a6 a7 a8 a9 a12 a13 a14 a15 a16 a17 a18 a19 a22 a23 a24 a25 a26 tn tk rc rl rf rt rv)) (hw : w < 6) (h1 : a19 w = 1) (ht : tk w = t) (htn : t < n) (hn : n ≤ 8) (h9 : a9 t = 1) (hp : ln t ≤ (a22 w).toNatClampNeg) (hq : ∀ f, f < n → tn f < 2 ^ 30)
    (h67 : ∀ c, c < 16 → ∀ f, f < 8 → ((f = t ∧ xb_bt (a8' t) c = true) → a6' (8 * c + f) = a25 (16 * w + c) ∧ a7' (8 * c + f) = nI (tn t)) ∧ (¬ (f = t ∧ xb_bt (a8' t) c = true) → a6' (8 * c + f) = a6 (8 * c + f) ∧ a7' (8 * c + f) = a7 (8 * c + f)))
    (h8 : a8' t = if a26 w = 0 then a24 w else 0) (h8' : ∀ s, s ≠ t → a8' s = a8 s) (h16 : a16' t = a26 w) (h16' : ∀ s, s ≠ t → a16' s = a16 s)
    (h9a : a9' t = 2) (h9b : ∀ d, d < n → d ≠ t → (a9' d = a9 d ∧ tn' d = tn d) ∨ (a9 d = 3 ∧ a9' d = 0 ∧ tn' d = tn d + 1)) (h9c : tn' t = tn t)
    (h19 : ∀ v, v < 6 → a19' v = 1 → a19 v = 1) :
    (vx_a n ln a1 a3 a4 a5 a6' a7' a8' a9' a12 a13 a14 a15 a16' a17 a18 a19' a22 a23 a24 a25 a26 tn' tk rc rl rf rt rv) := by
  obtain ⟨hr, hs, hx, he⟩ := H
  have inj : ∀ f x, f < n → x ≤ tn f → x < 2 ^ 31 := fun f x hf hx => by have := hq f hf; omega
  refine ⟨?_, ?_, ?_, ?_⟩
  · intro s hs' h
    have h' : a9 s = 1 ∨ a9 s = 2 := by
      by_cases z : s = t
      · rw [z]; exact Or.inl h9
      · rcases h9b s hs' z with y | y
        · rw [y.1] at h; exact h
        · rw [y.2.1] at h; exact absurd h (by decide)
    obtain ⟨y1, y2⟩ := hr s hs' h'
    refine ⟨y1, fun j hj => ?_⟩
    obtain ⟨z1, z2⟩ := y2 j hj
    obtain ⟨r1, r2, r3, r4, r5⟩ := y1.2.2 j hj
    refine ⟨z1, fun f hf => ?_⟩
    obtain ⟨u1, u2, u3⟩ := z2 f hf
    have hfs : f < s := by omega
    obtain ⟨k1, k2⟩ := h67 (rl s j) r1 f (by omega)
    by_cases zz : f = t
    · subst zz
      have u2' := u2 (by rw [h9]; decide)
      rw [h9c, h9a]
      refine ⟨u1, fun g => absurd rfl g, fun g => ?_⟩
      by_cases bb : xb_bt (a8' f) (rl s j) = true
      · have k := k1 ⟨rfl, bb⟩
        rw [k.2] at g
        have := (nI_eq (inj f _ htn (Nat.le_refl _)) (inj f _ htn u1)).mp g
        omega
      · have k := k2 (fun y => bb y.2)
        rw [k.2] at g
        rw [k.1]; exact u3 g
    · have k := k2 (fun y => zz y.1)
      rw [k.1, k.2]
      rcases h9b f (by omega) zz with y | y
      · rw [y.1, y.2]; exact ⟨u1, u2, u3⟩
      · rw [y.2.2]
        have u2' := u2 (by rw [y.1]; decide)
        exact ⟨by omega, fun _ => by omega, u3⟩
  · intro f hf cc hcc hb
    obtain ⟨k1, k2⟩ := h67 cc hcc f (by omega)
    by_cases zz : f = t
    · subst zz
      have k := k1 ⟨rfl, hb⟩
      rw [h9c, h9a]
      exact ⟨tn f, k.2, Nat.le_refl _, fun g => absurd rfl g⟩
    · have k := k2 (fun y => zz y.1)
      rw [h8' f zz] at hb
      obtain ⟨r, x1, x2, x3⟩ := hs f hf cc hcc hb
      rw [k.2]
      rcases h9b f hf zz with y | y
      · rw [y.1, y.2]; exact ⟨r, x1, x2, x3⟩
      · rw [y.2.2]; exact ⟨r, x1, by omega, fun _ => by omega⟩
  · intro v hv h1'
    exact hx v hv (h19 v hv h1')
  · intro s hs' h
    by_cases z : s = t
    · subst z
      have X := hx w hw h1
      rw [ht] at X
      obtain ⟨m, ps, rg, ma, sv, fl, cl, oc, ou, e, x1, x2, x3, x4, x5, x6, x7, x8, x9, x10, x11⟩ := X
      obtain ⟨q1, q2, q3⟩ := lx_b m e
      have hps : ln s ≤ ps := by
        rw [x4, nI_clamp (by omega)] at hp; exact hp
      have e' := lx_end e hps (13 - m)
      rw [show m + (13 - m) = 13 by omega] at e'
      refine ⟨ps, rg, ma, sv, fl, cl, oc, ou, e', q3, x9, ?_, x10, by omega, x11, ?_, ?_⟩
      · rw [h16]; exact x8
      · rw [h8, x8, x6]
      · intro cc hcc hb
        obtain ⟨k1, k2⟩ := h67 cc hcc s (by omega)
        rw [(k1 ⟨rfl, hb⟩).1]
        rw [h8, x8, x6] at hb
        refine x7 cc hcc ?_
        by_cases y : fl = 0
        · rw [if_pos y] at hb; exact hb
        · rw [if_neg y, xb_0] at hb; exact absurd hb (by decide)
    · have h' : a9 s = 2 := by
        rcases h9b s hs' z with y | y
        · rw [y.1] at h; exact h
        · rw [y.2.1] at h; exact absurd h (by decide)
      refine vg_d (he s hs' h') (fun cc hcc _ => ?_) (h8' s z) (h16' s z) rfl (fun _ _ => rfl) rfl rfl rfl
      exact ((h67 cc hcc s (by omega)).2 (fun y => z y.1)).1
end
/-! what becomes of reads that hold -/
section
variable {n : Nat} {a7 a8 a9 a7' a8' a9' : Nat → Int32} {rc rc' : Nat → Nat} {rl rf rt rl' rf' rt' : Nat → Nat → Nat} {t : Nat}
/-- a state changes that was no executed one; the records of others don't change -/
theorem rh_1 {s : Nat} {x : Int32} (h9 : a9 t ≠ 2) (hrc : rc' s = rc s) (hrl : rl' s = rl s) (hrf : rf' s = rf s) (hrt : rt' s = rt s) (H : rh_h a7 a8 a9 rc rl rf rt s) :
    rh_h a7 a8 (upd a9 t x) rc' rl' rf' rt' s := by
  intro j hj
  rw [hrc] at hj
  obtain ⟨y1, y2⟩ := H j hj
  rw [hrl, hrf, hrt]
  refine ⟨y1, fun f hf => ?_⟩
  obtain ⟨z1, z2⟩ := y2 f hf
  refine ⟨?_, z2⟩
  rw [pk_un (by intro z; rw [z] at z1; exact h9 z1)]
  exact z1
/-- earlier transactions don't see it -/
theorem rh_lt {s : Nat} (hl : ∀ j, j < rc s → rl s j < 16) (hs : s ≤ t) (h9 : ∀ f, f < t → a9 f = 2 → a9' f = 2) (h8 : ∀ f, f < t → a8' f = a8 f) (h7 : ∀ c, c < 16 → ∀ f, f < t → a7' (8 * c + f) = a7 (8 * c + f)) (H : rh_h a7 a8 a9 rc rl rf rt s) :
    rh_h a7' a8' a9' rc rl rf rt s := by
  intro j hj
  obtain ⟨y1, y2⟩ := H j hj
  have e : nb_n a8' (rl s j) s = nb_n a8 (rl s j) s := nb_eq (fun f hf => by rw [h8 f (by omega)])
  refine ⟨by rw [e]; exact y1, fun f hf => ?_⟩
  have hl' := nb_le a8 (rl s j) s
  obtain ⟨z1, z2⟩ := y2 f hf
  exact ⟨h9 f (by omega) z1, by rw [h7 _ (hl j hj) f (by omega)]; exact z2⟩
/-- nothing new was written -/
theorem rh_gt {s : Nat} (hl : ∀ j, j < rc s → rl s j < 16) (ht : a9 t ≠ 2) (hsn : s < 8) (h9 : ∀ f, f < s → f ≠ t → a9 f = 2 → a9' f = 2) (h8 : ∀ f, f ≠ t → a8' f = a8 f) (h8' : ∀ c, c < 16 → xb_bt (a8' t) c = true → xb_bt (a8 t) c = true)
    (h7 : ∀ c, c < 16 → ∀ f, f < 8 → f ≠ t → a7' (8 * c + f) = a7 (8 * c + f)) (H : rh_h a7 a8 a9 rc rl rf rt s) :
    rh_h a7' a8' a9' rc rl rf rt s := by
  intro j hj
  obtain ⟨y1, y2⟩ := H j hj
  have hc := hl j hj
  have hl := nb_le a8 (rl s j) s
  have e : nb_n a8' (rl s j) s = nb_n a8 (rl s j) s := by
    refine nb_shr (fun f hf hb => ?_) (fun f hf => ?_)
    · by_cases z : f = t
      · subst z; exact h8' _ hc hb
      · rw [h8 f z] at hb; exact hb
    · have z : f ≠ t := by
        intro z
        have := (y2 f (by omega)).1
        rw [z] at this; exact ht this
      rw [h8 f z]
      exact nb_bit hf
  refine ⟨by rw [e]; exact y1, fun f hf => ?_⟩
  obtain ⟨z1, z2⟩ := y2 f hf
  have z : f ≠ t := by
    intro z
    rw [z] at z1; exact ht z1
  exact ⟨h9 f (by omega) z z1, by rw [h7 _ hc f (by omega) z]; exact z2⟩
end
end
section
theorem wa_m1 (t : Nat) : nI t + (-1) = nI t - 1 := by rw [Int32.sub_eq_add_neg]
theorem wa_nbI {x y : Nat} (hx : x ≤ 8) (hy : y ≤ 8) : nb_I x = nb_I y ↔ x = y := by
  have : ∀ x, x < 9 → ∀ y, y < 9 → (nb_I x = nb_I y ↔ x = y) := by decide +kernel
  exact this x (by omega) y (by omega)
section
variable {fN fP fW fC fK fH fQ fR : Int32} {a1 a2 a3 a4 a5 a6 a7 a8 a9 a10 a11 a12 a13 a14 a15 a16 a17 a18 a19 a20 a21 a22 a23 a24 a25 a26 : Nat → Int32}
theorem wk_nb {post : Int32 → Prop} {c t : Nat} (hc : c < 16) (ht : t ≤ 8) (hp : post (nb_I (nb_n a8 c t))) : wpX_newestBefore post (fN, fP, fW, fC, fK, fH, fQ, fR, a1, a2, a3, a4, a5, a6, a7, a8, a9, a10, a11, a12, a13, a14, a15, a16, a17, a18, a19, a20, a21, a22, a23, a24, a25, a26) (nI c) (nI t) := by
  have key : ∀ t, t ≤ 8 → post (nb_I (nb_n a8 c t)) → wX_newestBefore_4 post (nI c) fN fP fW fC fK fH fQ fR a1 a2 a3 a4 a5 a6 a7 a8 a9 a10 a11 a12 a13 a14 a15 a16 a17 a18 a19 a20 a21 a22 a23 a24 a25 a26 (t + 1) (nI t - 1) := by
    intro t
    induction t with
    | zero => exact fun _ h => br_t (by decide) h
    | succ t ih =>
      intro h1 h2
      rw [nI_pred]
      refine br_f (nI_pos (by omega)) ⟨pk_in t 8 (by omega), ?_⟩
      rw [nI_clamp (show t < 2 ^ 31 by omega)]
      rw [nb_s] at h2
      refine ek_if (xb_test (a8 t) (by omega)) (fun b => ?_) (fun b => nm_r (wa_m1 t) (ih (by omega) ?_))
      · rw [if_pos b] at h2; exact h2
      · rw [if_neg b] at h2; exact h2
  exact nm_e ⟨t + 1, key t ht hp⟩
theorem wk_iv {post : Int32 → Prop} {c f : Nat} {x : Int32} (hc : c < 16) (hf : f < 8) (h1 : a9 f = 2 → a7 (8 * c + f) = x → post 1) (h0 : ¬ (a9 f = 2 ∧ a7 (8 * c + f) = x) → post 0) : wpX_isVersion post (fN, fP, fW, fC, fK, fH, fQ, fR, a1, a2, a3, a4, a5, a6, a7, a8, a9, a10, a11, a12, a13, a14, a15, a16, a17, a18, a19, a20, a21, a22, a23, a24, a25, a26) (nI f) (nI c) x := by
  unfold wpX_isVersion
  dsimp only
  refine ⟨pk_in f 8 hf, ?_⟩
  rw [nI_clamp (show f < 2 ^ 31 by omega)]
  refine br_c (fun y => ?_) (fun y => h0 (fun z => y z.1))
  have e : (8 : Int32) * nI c + nI f = nI (8 * c + f) := by
    rw [← nI_add, ← pk_mul]; rfl
  show vp_in ((8 : Int32) * nI c + nI f) 128 ∧ _
  rw [e]
  refine ⟨pk_in (8 * c + f) 128 (by omega), ?_⟩
  rw [nI_clamp (show 8 * c + f < 2 ^ 31 by omega)]
  exact br_c (fun z => h1 y z) (fun z => h0 (fun u => z u.2))
theorem wk_rh {post : Int32 → Prop} {t : Nat} {rc : Nat → Nat} {rl rf rt : Nat → Nat → Nat} (ht : t < 8) (va : (vr_a t a12 a13 a14 a15 rc rl rf rt)) (h1 : (rh_h a7 a8 a9 rc rl rf rt t) → post 1) (h0 : ¬ (rh_h a7 a8 a9 rc rl rf rt t) → post 0) : wpX_readsHold post (fN, fP, fW, fC, fK, fH, fQ, fR, a1, a2, a3, a4, a5, a6, a7, a8, a9, a10, a11, a12, a13, a14, a15, a16, a17, a18, a19, a20, a21, a22, a23, a24, a25, a26) (nI t) := by
  obtain ⟨v1, v2, v3⟩ := va
  have key : ∀ d i, i + d = rc t → (∀ j, j < i → nb_n a8 (rl t j) t = rf t j ∧ ∀ f, rf t j = f + 1 → a9 f = 2 ∧ a7 (8 * rl t j + f) = nI (rt t j)) → wX_readsHold_2 post (nI t) fN fP fW fC fK fH fQ fR a1 a2 a3 a4 a5 a6 a7 a8 a9 a10 a11 a12 a13 a14 a15 a16 a17 a18 a19 a20 a21 a22 a23 a24 a25 a26 (d + 1) (nI i) := by
    intro d
    induction d with
    | zero =>
      intro i hi h
      refine ⟨pk_in t 8 ht, ?_⟩
      rw [nI_clamp (show t < 2 ^ 31 by omega), v1]
      refine pk_le (rc t) i (fun _ => h1 ?_) (fun z => absurd z (by omega))
      intro j hj; exact h j (by omega)
    | succ d ih =>
      intro i hi h
      refine ⟨pk_in t 8 ht, ?_⟩
      rw [nI_clamp (show t < 2 ^ 31 by omega), v1]
      refine pk_le (rc t) i (fun z => absurd z (by omega)) (fun _ => ?_)
      have e : (12 : Int32) * nI t + nI i = nI (12 * t + i) := by
        rw [← nI_add, ← pk_mul]; rfl
      refine nm_r e ⟨pk_in (12 * t + i) 96 (by omega), ?_⟩
      rw [nI_clamp (show 12 * t + i < 2 ^ 31 by omega)]
      obtain ⟨r1, r2, r3, r4, r5⟩ := v3 i (by omega)
      rw [r2, r3, r4]
      refine wk_nb r1 (by omega) ⟨pk_in (12 * t + i) 96 (by omega), ?_⟩
      have hl := nb_le a8 (rl t i) t
      refine ek_if (wa_nbI (by omega) (by omega)) (fun y => ?_) (fun y => h0 (fun z => y (z i (by omega)).1))
      rw [y]
      cases hf : rf t i with
      | zero =>
        refine br_t (by decide) (nm_r (nI_1 i) (ih (i + 1) (by omega) ?_))
        intro j hj
        by_cases z : j = i
        · subst z; exact ⟨y, fun f hf' => absurd hf' (by omega)⟩
        · exact h j (by omega)
      | succ f =>
        refine br_f (nI_pos (by omega)) ⟨pk_in (12 * t + i) 96 (by omega), pk_in (12 * t + i) 96 (by omega), wk_iv r1 (by omega) (fun g1 g2 => ?_) (fun g => br_t rfl (h0 (fun z => g ((z i (by omega)).2 f hf))))⟩
        refine br_f (by decide) (nm_r (nI_1 i) (ih (i + 1) (by omega) ?_))
        intro j hj
        by_cases z : j = i
        · subst z
          refine ⟨y, fun f' hf' => ?_⟩
          rw [hf] at hf'
          have : f = f' := by omega
          rw [← this]; exact ⟨g1, g2⟩
        · exact h j (by omega)
  exact ⟨rc t + 1, key (rc t) 0 (by omega) (fun j hj => absurd hj (by omega))⟩
theorem wk_mr {post : St2 → Prop} {t c : Nat} (ht : t < 8) (hc : c < 2 ^ 31) (h1 : c ≤ t → post (fN, fP, fW, nI c, fK, fH, fQ, fR, a1, a2, a3, a4, a5, a6, a7, a8, upd a9 t 0, upd a10 t (a10 t + 1), a11, a12, a13, a14, a15, a16, a17, a18, a19, a20, a21, a22, a23, a24, a25, a26)) (h2 : t < c → post (fN, fP, fW, nI t, fK, fH, fQ, fR, a1, a2, a3, a4, a5, a6, a7, a8, upd a9 t 0, upd a10 t (a10 t + 1), a11, a12, a13, a14, a15, a16, a17, a18, a19, a20, a21, a22, a23, a24, a25, a26)) : wpX_makeReady post (fN, fP, fW, nI c, fK, fH, fQ, fR, a1, a2, a3, a4, a5, a6, a7, a8, a9, a10, a11, a12, a13, a14, a15, a16, a17, a18, a19, a20, a21, a22, a23, a24, a25, a26) (nI t) := by
  unfold wpX_makeReady
  dsimp only
  rw [nI_clamp (show t < 2 ^ 31 by omega)]
  exact ⟨pk_in t 8 ht, nm_e ⟨pk_in t 8 ht, pk_in t 8 ht, nm_e (pk_le c t h1 h2)⟩⟩
theorem wk_bc {post : St2 → Prop} {t w : Nat} (ht : t < 8) (hw : w < 6) (h1 : post (fN, fP, fW, fC, fK, fH, fQ, fR, a1, a2, a3, a4, a5, a6, a7, a8, a9, a10, a11, a12, a13, a14, a15, a16, a17, a18, upd a19 w 2, upd a20 w (nI t), upd a21 w (a10 t), a22, a23, a24, a25, a26)) : wpX_beginCheck post (fN, fP, fW, fC, fK, fH, fQ, fR, a1, a2, a3, a4, a5, a6, a7, a8, a9, a10, a11, a12, a13, a14, a15, a16, a17, a18, a19, a20, a21, a22, a23, a24, a25, a26) (nI w) (nI t) := by
  unfold wpX_beginCheck
  dsimp only
  rw [nI_clamp (show t < 2 ^ 31 by omega), nI_clamp (show w < 2 ^ 31 by omega)]
  exact ⟨pk_in w 6 hw, nm_e ⟨pk_in w 6 hw, nm_e ⟨pk_in t 8 ht, pk_in w 6 hw, nm_e h1⟩⟩⟩
theorem wk_ca {post : St2 → Prop} {t w : Nat} (ht : t < 8) (hw : w < 6)
    (h1 : ∀ a23' : Nat → Int32, (∀ r, r < 4 → a23' (4 * w + r) = 0) → (∀ v, v ≠ w → ∀ r, r < 4 → a23' (4 * v + r) = a23 (4 * v + r)) → post (fN, fP, fW, fC, fK, fH, fQ, fR, a1, a2, a3, a4, a5, a6, a7, a8, upd a9 t 1, a10, a11, upd a12 t 0, a13, a14, a15, a16, upd a17 t 0, a18, upd a19 w 1, upd a20 w (nI t), upd a21 w (a10 t), upd a22 w 0, a23', upd a24 w 0, a25, upd a26 w 0)) : wpX_beginCarrying post (fN, fP, fW, fC, fK, fH, fQ, fR, a1, a2, a3, a4, a5, a6, a7, a8, a9, a10, a11, a12, a13, a14, a15, a16, a17, a18, a19, a20, a21, a22, a23, a24, a25, a26) (nI w) (nI t) := by
  unfold wpX_beginCarrying
  dsimp only
  rw [nI_clamp (show t < 2 ^ 31 by omega), nI_clamp (show w < 2 ^ 31 by omega)]
  refine ⟨pk_in t 8 ht, nm_e ⟨pk_in w 6 hw, nm_e ⟨pk_in w 6 hw, nm_e ⟨pk_in t 8 ht, pk_in w 6 hw, nm_e ⟨pk_in w 6 hw, nm_e ⟨pk_in w 6 hw, nm_e ⟨pk_in w 6 hw, nm_e ⟨pk_in t 8 ht, nm_e ⟨pk_in t 8 ht, nm_e ?_⟩⟩⟩⟩⟩⟩⟩⟩⟩
  refine pk_loop (fun n i s => wX_beginCarrying_70 post (nI w) fN fP fW fC fK fH fQ fR n (nI i) a1 a2 a3 a4 a5 a6 a7 a8 (upd a9 t 1) a10 a11 (upd a12 t 0) a13 a14 a15 a16 (upd a17 t 0) a18 (upd a19 w 1) (upd a20 w (nI t)) (upd a21 w (a10 t)) (upd a22 w 0) s (upd a24 w 0) a25 (upd a26 w 0))
    (fun i s => (∀ r, r < i → s (4 * w + r) = 0) ∧ (∀ v, v ≠ w → ∀ r, r < 4 → s (4 * v + r) = a23 (4 * v + r))) 4 0 a23 (by omega) ⟨fun r hr => absurd hr (by omega), fun _ _ _ _ => rfl⟩ ?_ ?_
  · intro n s h
    exact pk_le 4 4 (fun _ => h1 s h.1 h.2) (fun z => absurd z (by omega))
  · intro n i s hi h hw'
    refine pk_le 4 i (fun z => absurd z (by omega)) (fun _ => ?_)
    have e : (4 : Int32) * nI w + nI i = nI (4 * w + i) := by
      rw [← nI_add, ← pk_mul]; rfl
    rw [e, nI_clamp (show 4 * w + i < 2 ^ 31 by omega)]
    refine ⟨pk_in (4 * w + i) 24 (by omega), nm_e (nm_r (nI_1 i) (hw' _ ⟨?_, ?_⟩))⟩
    · intro r hr
      by_cases z : r = i
      · subst z; exact pk_us
      · rw [pk_un (by omega)]; exact h.1 r (by omega)
    · intro v hv r hr
      rw [pk_un (by omega)]; exact h.2 v hv r hr
end
end
section
section
variable {fN fP fW fC fK fH fQ fR : Int32} {a1 a2 a3 a4 a5 a6 a7 a8 a9 a10 a11 a12 a13 a14 a15 a16 a17 a18 a19 a20 a21 a22 a23 a24 a25 a26 : Nat → Int32}
/-- the versions of a finish: cell by cell -/
def wf_v (a6' a7' a6 a7 a10 a25 : Nat → Int32) (w t : Nat) (x : Int32) : Prop :=
  ∀ c, c < 16 → ∀ f, f < 8 → ((f = t ∧ xb_bt x c = true) → a6' (8 * c + f) = a25 (16 * w + c) ∧ a7' (8 * c + f) = a10 t) ∧ (¬ (f = t ∧ xb_bt x c = true) → a6' (8 * c + f) = a6 (8 * c + f) ∧ a7' (8 * c + f) = a7 (8 * c + f))
theorem wk_43 {post : Int32 → St2 → Prop} {t w : Nat} {x y : Int32} (ht : t < 8) (hw : w < 6) (hy : y = 0 ∨ y = 1)
    (hp : ∀ a6' a7', wf_v a6' a7' a6 a7 a10 a25 w t x → post y (fN, fP, fW, fC, fK, fH, fQ, fR, a1, a2, a3, a4, a5, a6', a7', upd a8 t x, a9, a10, a11, a12, a13, a14, a15, a16, a17, a18, a19, a20, a21, a22, a23, a24, a25, a26)) : ∃ fu, wX_applyStores_43 post (nI w) (nI t) x y fN fP fW fC fK fH fQ fR fu 0 a1 a2 a3 a4 a5 a6 a7 a8 a9 a10 a11 a12 a13 a14 a15 a16 a17 a18 a19 a20 a21 a22 a23 a24 a25 a26 := by
  refine pk_loop (fun n i (s : (Nat → Int32) × (Nat → Int32)) => wX_applyStores_43 post (nI w) (nI t) x y fN fP fW fC fK fH fQ fR n (nI i) a1 a2 a3 a4 a5 s.1 s.2 a8 a9 a10 a11 a12 a13 a14 a15 a16 a17 a18 a19 a20 a21 a22 a23 a24 a25 a26)
    (fun i s => ∀ c, c < 16 → ∀ f, f < 8 → ((c < i ∧ f = t ∧ xb_bt x c = true) → s.1 (8 * c + f) = a25 (16 * w + c) ∧ s.2 (8 * c + f) = a10 t) ∧ (¬ (c < i ∧ f = t ∧ xb_bt x c = true) → s.1 (8 * c + f) = a6 (8 * c + f) ∧ s.2 (8 * c + f) = a7 (8 * c + f))) 16 0 (a6, a7) (by omega) ?_ ?_ ?_
  · intro c hc f hf
    exact ⟨fun z => absurd z.1 (by omega), fun _ => ⟨rfl, rfl⟩⟩
  · intro n s h
    refine pk_le 16 16 (fun _ => ?_) (fun z => absurd z (by omega))
    rw [nI_clamp (show t < 2 ^ 31 by omega)]
    refine ⟨pk_in t 8 ht, nm_e ⟨?_, hp s.1 s.2 ?_⟩⟩
    · rcases hy with z | z <;> rw [z] <;> rfl
    · intro c hc f hf
      obtain ⟨h1, h2⟩ := h c hc f hf
      exact ⟨fun z => h1 ⟨hc, z.1, z.2⟩, fun z => h2 (fun u => z u.2)⟩
  · intro n i s hi h hw'
    refine pk_le 16 i (fun z => absurd z (by omega)) (fun _ => ?_)
    refine ek_if (xb_test x (by omega)) (fun b => ?_) (fun b => nm_r (nI_1 i) (hw' s ?_))
    · have e1 : (8 : Int32) * nI i + nI t = nI (8 * i + t) := by
        rw [← nI_add, ← pk_mul]; rfl
      have e2 : (16 : Int32) * nI w + nI i = nI (16 * w + i) := by
        rw [← nI_add, ← pk_mul]; rfl
      unfold wpX_versionAt
      dsimp only
      rw [e1, e2, nI_clamp (show 8 * i + t < 2 ^ 31 by omega), nI_clamp (show 16 * w + i < 2 ^ 31 by omega), nI_clamp (show t < 2 ^ 31 by omega)]
      refine ⟨pk_in (16 * w + i) 96 (by omega), pk_in (8 * i + t) 128 (by omega), nm_e ⟨pk_in t 8 ht, pk_in (8 * i + t) 128 (by omega), nm_e (nm_r (nI_1 i) (hw' (upd s.1 (8 * i + t) (a25 (16 * w + i)), upd s.2 (8 * i + t) (a10 t)) ?_))⟩⟩
      intro c hc f hf
      obtain ⟨h1, h2⟩ := h c hc f hf
      by_cases z : c = i ∧ f = t
      · obtain ⟨z1, z2⟩ := z
        subst z1 z2
        refine ⟨fun _ => ⟨pk_us, pk_us⟩, fun u => absurd ⟨by omega, rfl, b⟩ u⟩
      · have z' : 8 * c + f ≠ 8 * i + t := by omega
        dsimp only
        rw [pk_un z', pk_un z']
        refine ⟨fun u => h1 ⟨by omega, u.2⟩, fun u => h2 (fun v => u ⟨by omega, v.2⟩)⟩
    · intro c hc f hf
      obtain ⟨h1, h2⟩ := h c hc f hf
      refine ⟨fun u => h1 ⟨?_, u.2⟩, fun u => h2 (fun v => u ⟨by omega, v.2⟩)⟩
      by_cases z : c = i
      · subst z; exact absurd u.2.2 b
      · omega
theorem wk_as {post : Int32 → St2 → Prop} {t w : Nat} {x : Int32} (ht : t < 8) (hw : w < 6) (hx : x = if a26 w = 0 then a24 w else 0)
    (hp : ∀ (r : Int32) a6' a7', wf_v a6' a7' a6 a7 a10 a25 w t x → (r = 0 → ∀ c, c < 16 → xb_bt x c = true → xb_bt (a8 t) c = true) → post r (fN, fP, fW, fC, fK, fH, fQ, fR, a1, a2, a3, a4, a5, a6', a7', upd a8 t x, a9, a10, a11, a12, a13, a14, a15, a16, a17, a18, a19, a20, a21, a22, a23, a24, a25, a26)) : wpX_applyStores post (fN, fP, fW, fC, fK, fH, fQ, fR, a1, a2, a3, a4, a5, a6, a7, a8, a9, a10, a11, a12, a13, a14, a15, a16, a17, a18, a19, a20, a21, a22, a23, a24, a25, a26) (nI w) (nI t) := by
  have key : ∀ z : Int32, z = x → wX_applyStores_19 post (nI w) (nI t) z fN fP fW fC fK fH fQ fR a1 a2 a3 a4 a5 a6 a7 a8 a9 a10 a11 a12 a13 a14 a15 a16 a17 a18 a19 a20 a21 a22 a23 a24 a25 a26 := by
    intro z hz
    subst hz
    unfold wX_applyStores_19
    rw [nI_clamp (show t < 2 ^ 31 by omega)]
    refine ⟨pk_in t 8 ht, br_c (fun y => wk_43 ht hw (Or.inl rfl) (fun a6' a7' h => hp 0 a6' a7' h (fun _ c hc hb => xb_sub y (by omega) hb))) (fun y => wk_43 ht hw (Or.inr rfl) (fun a6' a7' h => hp 1 a6' a7' h (fun u => absurd u (by decide))))⟩
  unfold wpX_applyStores
  dsimp only
  rw [nI_clamp (show w < 2 ^ 31 by omega)]
  refine ⟨pk_in w 6 hw, br_c (fun y => ⟨pk_in w 6 hw, key _ ?_⟩) (fun y => key _ ?_)⟩
  · rw [hx, if_pos y]
  · rw [hx, if_neg y]
/-- the waiters of a finish -/
def wf_s (c' : Nat) (a9' a10' : Nat → Int32) (c : Nat) (a9 a10 : Nat → Int32) (x : Int32) (i : Nat) : Prop :=
  (∀ d, d < 8 → a9' d = if d < i ∧ xb_bt x d = true then 0 else a9 d) ∧
  (∀ d, d < 8 → a10' d = if d < i ∧ xb_bt x d = true then a10 d + 1 else a10 d) ∧
  c' ≤ c ∧ ∀ d, d < i → xb_bt x d = true → c' ≤ d
theorem wk_36 {post : St2 → Prop} {t w c k : Nat} {r : Int32} (ht : t < 8) (hw : w < 6) (hc : c < 2 ^ 31) (hk : k < 2 ^ 31)
    (hp : ∀ c' a9' a10', wf_s c' a9' a10' c a9 a10 (a11 t) 8 →
      (k ≤ t → post (fN, fP, fW, nI c', nI k, fH, fQ, fR, a1, a2, a3, a4, a5, a6, a7, a8, a9', a10', upd a11 t 0, a12, a13, a14, a15, a16, a17, a18, upd a19 w 0, a20, a21, a22, a23, a24, a25, a26)) ∧
      (t < k → r ≠ 0 → post (fN, fP, fW, nI c', nI t, fH, fQ, fR, a1, a2, a3, a4, a5, a6, a7, a8, a9', a10', upd a11 t 0, a12, a13, a14, a15, a16, a17, a18, upd a19 w 0, a20, a21, a22, a23, a24, a25, a26)) ∧
      (t < k → r = 0 → post (fN, fP, fW, nI c', nI k, fH, fQ, fR, a1, a2, a3, a4, a5, a6, a7, a8, a9', a10', upd a11 t 0, a12, a13, a14, a15, a16, a17, a18, upd (upd a19 w 0) w 2, upd a20 w (nI t), upd a21 w (a10' t), a22, a23, a24, a25, a26))) :
    ∃ fu, wX_finish_36 post (nI w) (nI t) r fu 0 fN fP fW (nI c) (nI k) fH fQ fR a1 a2 a3 a4 a5 a6 a7 a8 a9 a10 a11 a12 a13 a14 a15 a16 a17 a18 a19 a20 a21 a22 a23 a24 a25 a26 := by
  refine pk_loop (fun n i (s : Nat × (Nat → Int32) × (Nat → Int32)) => wX_finish_36 post (nI w) (nI t) r n (nI i) fN fP fW (nI s.1) (nI k) fH fQ fR a1 a2 a3 a4 a5 a6 a7 a8 s.2.1 s.2.2 a11 a12 a13 a14 a15 a16 a17 a18 a19 a20 a21 a22 a23 a24 a25 a26)
    (fun i s => wf_s s.1 s.2.1 s.2.2 c a9 a10 (a11 t) i) 8 0 (c, a9, a10) (by omega) ?_ ?_ ?_
  · exact ⟨fun d _ => by rw [if_neg (by omega)], fun d _ => by rw [if_neg (by omega)], Nat.le_refl _, fun d hd => absurd hd (by omega)⟩
  · intro n s h
    refine pk_le 8 8 (fun _ => ?_) (fun z => absurd z (by omega))
    obtain ⟨p1, p2, p3⟩ := hp s.1 s.2.1 s.2.2 h
    rw [nI_clamp (show t < 2 ^ 31 by omega), nI_clamp (show w < 2 ^ 31 by omega)]
    refine ⟨pk_in t 8 ht, nm_e ⟨pk_in w 6 hw, nm_e (pk_le k t (fun z => ?_) (fun z => br_c (fun y => ?_) (fun y => p2 z y)))⟩⟩
    · exact pk_le k t (fun _ => p1 z) (fun y => absurd y (by omega))
    · exact pk_le k t (fun y => absurd y (by omega)) (fun _ => wk_bc ht hw (p3 z y))
  · intro n i s hi h hw'
    refine pk_le 8 i (fun z => absurd z (by omega)) (fun _ => ?_)
    rw [nI_clamp (show t < 2 ^ 31 by omega)]
    obtain ⟨h1, h2, h3, h4⟩ := h
    refine ⟨pk_in t 8 ht, ek_if (xb_test (a11 t) (by omega)) (fun b => ?_) (fun b => nm_r (nI_1 i) (hw' s ?_))⟩
    · have q9 : ∀ d, d < 8 → upd s.2.1 i 0 d = if d < i + 1 ∧ xb_bt (a11 t) d = true then 0 else a9 d := by
        intro d hd
        by_cases z : d = i
        · subst z; rw [pk_us, if_pos ⟨by omega, b⟩]
        · rw [pk_un z, h1 d hd]
          have : (d < i ∧ xb_bt (a11 t) d = true) ↔ (d < i + 1 ∧ xb_bt (a11 t) d = true) := ⟨fun u => ⟨by omega, u.2⟩, fun u => ⟨by omega, u.2⟩⟩
          simp only [this]
      have q10 : ∀ d, d < 8 → upd s.2.2 i (s.2.2 i + 1) d = if d < i + 1 ∧ xb_bt (a11 t) d = true then a10 d + 1 else a10 d := by
        intro d hd
        by_cases z : d = i
        · subst z; rw [pk_us, if_pos ⟨by omega, b⟩, h2 d hd, if_neg (by omega)]
        · rw [pk_un z, h2 d hd]
          have : (d < i ∧ xb_bt (a11 t) d = true) ↔ (d < i + 1 ∧ xb_bt (a11 t) d = true) := ⟨fun u => ⟨by omega, u.2⟩, fun u => ⟨by omega, u.2⟩⟩
          simp only [this]
      refine wk_mr (by omega) (by omega) (fun z => nm_r (nI_1 i) (hw' (s.1, upd s.2.1 i 0, upd s.2.2 i (s.2.2 i + 1)) ⟨q9, q10, h3, ?_⟩)) (fun z => nm_r (nI_1 i) (hw' (i, upd s.2.1 i 0, upd s.2.2 i (s.2.2 i + 1)) ⟨q9, q10, by dsimp only; omega, ?_⟩))
      · intro d hd hb
        by_cases y : d = i
        · subst y; exact z
        · exact h4 d (by omega) hb
      · intro d hd hb
        by_cases y : d = i
        · subst y; exact Nat.le_refl _
        · have := h4 d (by omega) hb
          dsimp only
          omega
    · refine ⟨fun d hd => ?_, fun d hd => ?_, h3, fun d hd hb => ?_⟩
      · rw [h1 d hd]
        by_cases z : d = i
        · subst z; rw [if_neg (by omega), if_neg (fun u => b u.2)]
        · have : (d < i ∧ xb_bt (a11 t) d = true) ↔ (d < i + 1 ∧ xb_bt (a11 t) d = true) := ⟨fun u => ⟨by omega, u.2⟩, fun u => ⟨by omega, u.2⟩⟩
          simp only [this]
      · rw [h2 d hd]
        by_cases z : d = i
        · subst z; rw [if_neg (by omega), if_neg (fun u => b u.2)]
        · have : (d < i ∧ xb_bt (a11 t) d = true) ↔ (d < i + 1 ∧ xb_bt (a11 t) d = true) := ⟨fun u => ⟨by omega, u.2⟩, fun u => ⟨by omega, u.2⟩⟩
          simp only [this]
      · by_cases z : d = i
        · subst z; exact absurd hb b
        · exact h4 d (by omega) hb
theorem wk_fi {post : St2 → Prop} {t w c k : Nat} {x : Int32} (ht : t < 8) (hw : w < 6) (hc : c < 2 ^ 31) (hk : k < 2 ^ 31) (h20 : a20 w = nI t) (hx : x = if a26 w = 0 then a24 w else 0)
    (hp : ∀ (r : Int32) a6' a7' c' a9' a10', wf_v a6' a7' a6 a7 a10 a25 w t x → (r = 0 → ∀ c, c < 16 → xb_bt x c = true → xb_bt (a8 t) c = true) → wf_s c' a9' a10' c (upd a9 t 2) a10 (a11 t) 8 →
      (k ≤ t → post (fN, fP, fW, nI c', nI k, fH, fQ, fR, a1, a2, a3, a4, a5, a6', a7', upd a8 t x, a9', a10', upd a11 t 0, a12, a13, a14, a15, upd a16 t (vp_nar .boolean (a26 w)), a17, a18, upd a19 w 0, a20, a21, a22, a23, a24, a25, a26)) ∧
      (t < k → r ≠ 0 → post (fN, fP, fW, nI c', nI t, fH, fQ, fR, a1, a2, a3, a4, a5, a6', a7', upd a8 t x, a9', a10', upd a11 t 0, a12, a13, a14, a15, upd a16 t (vp_nar .boolean (a26 w)), a17, a18, upd a19 w 0, a20, a21, a22, a23, a24, a25, a26)) ∧
      (t < k → r = 0 → post (fN, fP, fW, nI c', nI k, fH, fQ, fR, a1, a2, a3, a4, a5, a6', a7', upd a8 t x, a9', a10', upd a11 t 0, a12, a13, a14, a15, upd a16 t (vp_nar .boolean (a26 w)), a17, a18, upd (upd a19 w 0) w 2, upd a20 w (nI t), upd a21 w (a10' t), a22, a23, a24, a25, a26))) :
    wpX_finish post (fN, fP, fW, nI c, nI k, fH, fQ, fR, a1, a2, a3, a4, a5, a6, a7, a8, a9, a10, a11, a12, a13, a14, a15, a16, a17, a18, a19, a20, a21, a22, a23, a24, a25, a26) (nI w) := by
  unfold wpX_finish
  dsimp only
  rw [nI_clamp (show w < 2 ^ 31 by omega)]
  refine ⟨pk_in w 6 hw, nm_r h20 (wk_as ht hw hx (fun r a6' a7' h1 h2 => ?_))⟩
  dsimp only
  rw [nI_clamp (show t < 2 ^ 31 by omega)]
  exact ⟨pk_in w 6 hw, pk_in t 8 ht, nm_e ⟨pk_in t 8 ht, nm_e (wk_36 ht hw hc hk (fun c' a9' a10' h3 => hp r a6' a7' c' a9' a10' h1 h2 h3))⟩⟩
end
end
section
def kr_g (n W : Nat) (ln : Nat → Nat) (q Φ c k : Nat) (a1 a3 a4 a5 a6 a7 a8 a9 a10 a11 a12 a13 a14 a15 a16 a17 a18 a19 a20 a21 a22 a23 a24 a25 a26 : Nat → Int32) (tn tk ow wf pw b l cf rc : Nat → Nat) (rl rf rt : Nat → Nat → Nat) (rv : Nat → Nat → Int32) : Prop := (ct_a n W q Φ c k a9 a10 a11 a19 a20 a21 a22 (rh_h a7 a8 a9 rc rl rf rt) tn tk ow wf pw b l cf) ∧ (vx_a n ln a1 a3 a4 a5 a6 a7 a8 a9 a12 a13 a14 a15 a16 a17 a18 a19 a22 a23 a24 a25 a26 tn tk rc rl rf rt rv)
def kr_a (n W : Nat) (ln : Nat → Nat) (q Φ c k : Nat) (a1 a3 a4 a5 a6 a7 a8 a9 a10 a11 a12 a13 a14 a15 a16 a17 a18 a19 a20 a21 a22 a23 a24 a25 a26 : Nat → Int32) : Prop := ∃ tn tk ow wf pw b l cf rc rl rf rt rv, (kr_g n W ln q Φ c k a1 a3 a4 a5 a6 a7 a8 a9 a10 a11 a12 a13 a14 a15 a16 a17 a18 a19 a20 a21 a22 a23 a24 a25 a26 tn tk ow wf pw b l cf rc rl rf rt rv)
def kr_p (n : Nat) (ln : Nat → Nat) (a2 a4 : Nat → Int32) : Prop := ∀ t, t < n → a2 t = nI (ln t) ∧ ln t ≤ 12 ∧ ∀ p, p < ln t → ∃ x, x < 16 ∧ a4 (12 * t + p) = nI x
def kr_h (n W : Nat) (ln : Nat → Nat) (q Φ : Nat) (fN fP fW fH fQ fR : Int32) (a1 a2 a3 a4 a5 : Nat → Int32) (post : St2 → Prop) : Prop := ∀ (c k : Nat) (a6 a7 a8 a9 a10 a11 a12 a13 a14 a15 a16 a17 a18 a19 a20 a21 a22 a23 a24 a25 a26 : Nat → Int32), (kr_a n W ln q Φ c k a1 a3 a4 a5 a6 a7 a8 a9 a10 a11 a12 a13 a14 a15 a16 a17 a18 a19 a20 a21 a22 a23 a24 a25 a26) → post (fN, fP, fW, nI c, nI k, fH, fQ, fR, a1, a2, a3, a4, a5, a6, a7, a8, a9, a10, a11, a12, a13, a14, a15, a16, a17, a18, a19, a20, a21, a22, a23, a24, a25, a26)
section
variable {fN fP fW fC fK fH fQ fR : Int32} {a1 a2 a3 a4 a5 a6 a7 a8 a9 a10 a11 a12 a13 a14 a15 a16 a17 a18 a19 a20 a21 a22 a23 a24 a25 a26 : Nat → Int32} {n W q Φ c k : Nat} {ln : Nat → Nat} {w t : Nat} {tn tk ow wf pw b l cf rc : Nat → Nat} {rl rf rt : Nat → Nat → Nat} {rv : Nat → Nat → Int32}
theorem kr_u {post : St2 → Prop} (hp : (kr_h n W ln q Φ fN fP fW fH fQ fR a1 a2 a3 a4 a5 post)) (g : (kr_a n W ln q Φ c k a1 a3 a4 a5 a6 a7 a8 a9 a10 a11 a12 a13 a14 a15 a16 a17 a18 a19 a20 a21 a22 a23 a24 a25 a26)) : post (fN, fP, fW, nI c, nI k, fH, fQ, fR, a1, a2, a3, a4, a5, a6, a7, a8, a9, a10, a11, a12, a13, a14, a15, a16, a17, a18, a19, a20, a21, a22, a23, a24, a25, a26) := hp _ _ _ _ _ _ _ _ _ _ _ _ _ _ _ _ _ _ _ _ _ _ _ g
theorem ki_0 (H : (kr_a n W ln q Φ c k a1 a3 a4 a5 a6 a7 a8 a9 a10 a11 a12 a13 a14 a15 a16 a17 a18 a19 a20 a21 a22 a23 a24 a25 a26)) : (kr_a n W ln (q+1) Φ c k a1 a3 a4 a5 a6 a7 a8 a9 a10 a11 a12 a13 a14 a15 a16 a17 a18 a19 a20 a21 a22 a23 a24 a25 a26) := by
  obtain ⟨tn, tk, ow, wf, pw, b, l, cf, rc, rl, rf, rt, rv, h1, h2⟩ := H
  exact ⟨tn, tk, ow, wf, pw, b, l, cf, rc, rl, rf, rt, rv, cs_0 h1, h2⟩
theorem ki_1 (H : (kr_a n W ln q Φ c k a1 a3 a4 a5 a6 a7 a8 a9 a10 a11 a12 a13 a14 a15 a16 a17 a18 a19 a20 a21 a22 a23 a24 a25 a26)) (hw : w < W) (h0 : a19 w = 0) (hkn : k < n) (hx : a9 k = 2) :
    1 ≤ Φ ∧ (kr_a n W ln (q+1) (Φ-1) c (k+1) a1 a3 a4 a5 a6 a7 a8 a9 a10 a11 a12 a13 a14 a15 a16 a17 a18 (upd a19 w 2) (upd a20 w (nI k)) (upd a21 w (a10 k)) a22 a23 a24 a25 a26) := by
  obtain ⟨tn, tk, ow, wf, pw, b, l, cf, rc, rl, rf, rt, rv, h1, h2⟩ := H
  obtain ⟨e, g⟩ := cs_1 h1 hw h0 hkn hx
  refine ⟨e, _, _, _, _, _, _, _, _, rc, rl, rf, rt, rv, g, vt_1 h2 (fun v _ hv => ?_)⟩
  by_cases z : v = w
  · subst z; rw [pk_us] at hv; exact absurd hv (by decide)
  · rw [pk_un z] at hv; exact ⟨hv, ux_n _ _ z⟩
theorem ki_2 (H : (kr_a n W ln q Φ c k a1 a3 a4 a5 a6 a7 a8 a9 a10 a11 a12 a13 a14 a15 a16 a17 a18 a19 a20 a21 a22 a23 a24 a25 a26)) (hkn : k < n) (hx : a9 k ≠ 2) : 1 ≤ Φ ∧ (kr_a n W ln (q+1) (Φ-1) c (k+1) a1 a3 a4 a5 a6 a7 a8 a9 a10 a11 a12 a13 a14 a15 a16 a17 a18 a19 a20 a21 a22 a23 a24 a25 a26) := by
  obtain ⟨tn, tk, ow, wf, pw, b, l, cf, rc, rl, rf, rt, rv, h1, h2⟩ := H
  obtain ⟨e, g⟩ := cs_2 h1 hkn hx
  exact ⟨e, _, _, _, _, _, _, _, _, rc, rl, rf, rt, rv, g, h2⟩
theorem ki_4 (H : (kr_a n W ln q Φ c k a1 a3 a4 a5 a6 a7 a8 a9 a10 a11 a12 a13 a14 a15 a16 a17 a18 a19 a20 a21 a22 a23 a24 a25 a26)) (hcn : c < n) (hx : a9 c ≠ 0) : 1 ≤ Φ ∧ (kr_a n W ln (q+1) (Φ-1) (c+1) k a1 a3 a4 a5 a6 a7 a8 a9 a10 a11 a12 a13 a14 a15 a16 a17 a18 a19 a20 a21 a22 a23 a24 a25 a26) := by
  obtain ⟨tn, tk, ow, wf, pw, b, l, cf, rc, rl, rf, rt, rv, h1, h2⟩ := H
  obtain ⟨e, g⟩ := cs_4 h1 hcn hx
  exact ⟨e, _, _, _, _, _, _, _, _, rc, rl, rf, rt, rv, g, h2⟩
theorem ki_3 {a23' : Nat → Int32} (H : (kr_a n W ln q Φ c k a1 a3 a4 a5 a6 a7 a8 a9 a10 a11 a12 a13 a14 a15 a16 a17 a18 a19 a20 a21 a22 a23 a24 a25 a26)) (hw : w < W) (h0 : a19 w = 0) (hcn : c < n) (hx : a9 c = 0)
    (h23 : ∀ r, r < 4 → a23' (4 * w + r) = 0) (h23' : ∀ v, v ≠ w → ∀ r, r < 4 → a23' (4 * v + r) = a23 (4 * v + r)) :
    1 ≤ Φ ∧ (kr_a n W ln (q+1) (Φ-1) (c+1) k a1 a3 a4 a5 a6 a7 a8 (upd a9 c 1) a10 a11 (upd a12 c 0) a13 a14 a15 a16 (upd a17 c 0) a18 (upd a19 w 1) (upd a20 w (nI c)) (upd a21 w (a10 c)) (upd a22 w 0) a23' (upd a24 w 0) a25 (upd a26 w 0)) := by
  obtain ⟨tn, tk, ow, wf, pw, b, l, cf, rc, rl, rf, rt, rv, h1, h2⟩ := H
  have hW : W ≤ 6 := h1.2.1
  have ho := h1.2.2.2.2.2.2.2.2.2.1
  obtain ⟨e, g⟩ := cs_3 (R' := rh_h a7 a8 (upd a9 c 1) (ux_up rc c 0) rl rf rt) h1 hw h0 hcn hx (fun t _ hc hr => rh_1 (by rw [hx]; decide) (ux_n _ _ hc) rfl rfl rfl hr) (fun j hj => by rw [ux_s] at hj; omega)
  refine ⟨e, _, _, _, _, _, _, _, _, ux_up rc c 0, rl, rf, rt, rv, g, vt_3 h2 hcn (by omega) hx (fun v hv h1v => ?_) h0 h23 h23'⟩
  intro z
  have := (ho v hv h1v).1
  rw [z, hx] at this
  exact absurd this (by decide)
theorem ki_6 (H : (kr_g n W ln q Φ c k a1 a3 a4 a5 a6 a7 a8 a9 a10 a11 a12 a13 a14 a15 a16 a17 a18 a19 a20 a21 a22 a23 a24 a25 a26 tn tk ow wf pw b l cf rc rl rf rt rv)) (hw : w < 6) (h2 : a19 w = 2) (hx : a9 (tk w) = 2 → a10 (tk w) = a21 w → (rh_h a7 a8 a9 rc rl rf rt (tk w))) :
    1 ≤ Φ ∧ (kr_a n W ln (q+1) (Φ-1) c k a1 a3 a4 a5 a6 a7 a8 a9 a10 a11 a12 a13 a14 a15 a16 a17 a18 (upd a19 w 0) a20 a21 a22 a23 a24 a25 a26) := by
  obtain ⟨h1, h3⟩ := H
  obtain ⟨e, g⟩ := cs_6 h1 hw h2 hx
  refine ⟨e, _, _, _, _, _, _, _, _, rc, rl, rf, rt, rv, g, vt_1 h3 (fun v _ hv => ?_)⟩
  by_cases z : v = w
  · subst z; rw [pk_us] at hv; exact absurd hv (by decide)
  · rw [pk_un z] at hv; exact ⟨hv, rfl⟩
theorem ki_7 {c' k' : Nat} (H : (kr_g n W ln q Φ c k a1 a3 a4 a5 a6 a7 a8 a9 a10 a11 a12 a13 a14 a15 a16 a17 a18 a19 a20 a21 a22 a23 a24 a25 a26 tn tk ow wf pw b l cf rc rl rf rt rv)) (hw : w < 6) (h2 : a19 w = 2) (ht : tk w = t) (hx : a9 t = 2) (hnR : ¬ (rh_h a7 a8 a9 rc rl rf rt t))
    (hc1 : c' ≤ c) (hc2 : c' ≤ t) (hk1 : k' ≤ k) (hk2 : k' ≤ t + 1) :
    1 ≤ Φ ∧ (kr_a n W ln (q+1) (Φ-1) c' k' a1 a3 a4 a5 a6 a7 a8 (upd a9 t 0) (upd a10 t (a10 t + 1)) a11 a12 a13 a14 a15 a16 a17 a18 (upd a19 w 0) a20 a21 a22 a23 a24 a25 a26) := by
  obtain ⟨h1, h3⟩ := H
  subst ht
  have htk := h1.2.2.2.2.2.1 w hw (by rw [h2]; decide)
  have hR : ∀ s, s < tk w → (rh_h a7 a8 a9 rc rl rf rt s) → (rh_h a7 a8 (upd a9 (tk w) 0) rc rl rf rt s) := by
    intro s hs hr j hj
    obtain ⟨y1, y2⟩ := hr j hj
    refine ⟨y1, fun f hf => ?_⟩
    obtain ⟨z1, z2⟩ := y2 f hf
    have hl := nb_le a8 (rl s j) s
    exact ⟨by rw [pk_un (by omega)]; exact z1, z2⟩
  obtain ⟨e, g⟩ := cs_7 (R' := rh_h a7 a8 (upd a9 (tk w) 0) rc rl rf rt) h1 hw h2 hx hnR hR hc1 hc2 hk1 hk2
  refine ⟨e, _, _, _, _, _, _, _, _, rc, rl, rf, rt, rv, g, vt_7 h3 hx (fun v _ hv => ?_)⟩
  by_cases z : v = w
  · subst z; rw [pk_us] at hv; exact absurd hv (by decide)
  · rw [pk_un z] at hv; exact hv
/-- the transaction of a worker that carries out -/
theorem ki_o (H : (kr_g n W ln q Φ c k a1 a3 a4 a5 a6 a7 a8 a9 a10 a11 a12 a13 a14 a15 a16 a17 a18 a19 a20 a21 a22 a23 a24 a25 a26 tn tk ow wf pw b l cf rc rl rf rt rv)) (hw : w < 6) (h1 : a19 w = 1) (ht : tk w = t) : w < W ∧ a20 w = nI t ∧ t < n ∧ a9 t = 1 ∧ (∀ v, v < 6 → a19 v = 1 → v ≠ w → tk v ≠ t) ∧ (∀ v, v < 6 → a19 v = 1 → tk v < n) ∧ n ≤ 4 ∧ c ≤ n ∧ k ≤ n := by
  obtain ⟨⟨hn, hW, hc, hk, htn, htk, hs4, hrd, ho1, ho2, hw1, hw2, hpc, hbu, hml, hme⟩, h3⟩ := H
  subst ht
  obtain ⟨t1, t2, t3⟩ := htk w hw (by rw [h1]; decide)
  obtain ⟨o1, o2⟩ := ho2 w hw h1
  refine ⟨t1, t2, t3, o1, fun v hv g1 g2 g3 => ?_, fun v hv g1 => (htk v hv (by rw [g1]; decide)).2.2, hn, hc, hk⟩
  have := (ho2 v hv g1).2
  rw [g3, o2] at this
  exact g2 this.symm
/-- an instruction without a read from outside -/
theorem ki_l {a17' a18' a23' a24' a25' a26' : Nat → Int32} {m ps ps' : Nat} {rg rg' : Nat → Int32} {ma ma' : Int32} {sv sv' : Nat → Int32} {fl fl' : Int32} {cl : Nat → Nat} {oc oc' : Nat} {ou ou' : Nat → Int32}
    (H : (kr_g n W ln q Φ c k a1 a3 a4 a5 a6 a7 a8 a9 a10 a11 a12 a13 a14 a15 a16 a17 a18 a19 a20 a21 a22 a23 a24 a25 a26 tn tk ow wf pw b l cf rc rl rf rt rv)) (hw : w < 6) (h1 : a19 w = 1) (ht : tk w = t) (hl : ln t ≤ 12) (X : (vx_2 ln a3 a4 a5 a17 a18 a22 a23 a24 a25 a26 rc rl rv w t m ps rg ma sv fl cl oc ou))
    (st : lx_st ln a3 a4 a5 t (rv t) (ps, rg, ma, sv, fl, rc t, cl, oc, ou) = (ps', rg', ma', sv', fl', rc t, cl, oc', ou'))
    (hps : ps < ln t) (hps' : ps < ps') (hps13 : ps' ≤ 13)
    (y5 : ∀ r, r < 4 → a23' (4 * w + r) = rg' r) (y6 : a24' w = ma') (y7 : ∀ c, c < 16 → xb_bt ma' c = true → a25' (16 * w + c) = sv' c) (y8 : a26' w = fl') (y10 : a17' t = nI oc') (y11 : ∀ j, j < oc' → a18' (12 * t + j) = ou' j)
    (fv : ∀ v, v < 6 → v ≠ w → a24' v = a24 v ∧ a26' v = a26 v ∧ (∀ r, r < 4 → a23' (4 * v + r) = a23 (4 * v + r)) ∧ ∀ c, c < 16 → a25' (16 * v + c) = a25 (16 * v + c))
    (fs : ∀ s, s < n → s ≠ t → a17' s = a17 s ∧ ∀ j, j < 12 → a18' (12 * s + j) = a18 (12 * s + j)) :
    1 ≤ Φ ∧ (kr_a n W ln (q+1) (Φ-1) c k a1 a3 a4 a5 a6 a7 a8 a9 a10 a11 a12 a13 a14 a15 a16 a17' a18' a19 a20 a21 (upd a22 w (nI ps')) a23' a24' a25' a26') := by
  obtain ⟨o1, o2, o3, o4, o5, o6, _⟩ := ki_o H hw h1 ht
  obtain ⟨e, x1, x2, x3, x4, x5, x6, x7, x8, x9, x10, x11⟩ := X
  obtain ⟨hc, hv⟩ := H
  obtain ⟨e1, g⟩ := cs_9 (p' := nI ps') (R' := rh_h a7 a8 a9 rc rl rf rt) hc hw h1 (by rw [x4, nI_clamp (by omega), nI_clamp (by omega)]; exact hps') (by rw [x4, nI_clamp (by omega)]; omega) (fun _ _ h => h)
  rw [ht] at g
  refine ⟨e1, _, _, _, _, _, _, _, _, rc, rl, rf, rt, rv, g, ?_⟩
  obtain ⟨r1, r2⟩ := hv.1 t o3 (Or.inl o4)
  refine vt_9 (w := w) (t := t) hv ht o4 o5 ?_ r1 r2 ?_ ?_ o6
  · refine ⟨m + 1, ps', rg', ma', sv', fl', cl, oc', ou', ?_, by omega, by omega, hps13, pk_us, y5, y6, y7, y8, x9, y10, y11⟩
    show lx_st ln a3 a4 a5 t (rv t) (lx_it ln a3 a4 a5 t (rv t) m) = _
    rw [e]; exact st
  · intro s hs hst
    obtain ⟨z1, z2⟩ := fs s hs hst
    exact ⟨rfl, rfl, rfl, rfl, rfl, rfl, z1, fun j hj => ⟨rfl, rfl, rfl, z2 j hj⟩⟩
  · intro v hv' hvw
    obtain ⟨z1, z2, z3, z4⟩ := fv v hv' hvw
    exact ⟨pk_un hvw, z1, z2, z3, z4⟩
theorem ki_lr {m ps x : Nat} {v : Int32} {rg : Nat → Int32} {ma : Int32} {sv : Nat → Int32} {fl : Int32} {cl : Nat → Nat} {oc : Nat} {ou : Nat → Int32}
    (H : (kr_g n W ln q Φ c k a1 a3 a4 a5 a6 a7 a8 a9 a10 a11 a12 a13 a14 a15 a16 a17 a18 a19 a20 a21 a22 a23 a24 a25 a26 tn tk ow wf pw b l cf rc rl rf rt rv)) (hw : w < 6) (h1 : a19 w = 1) (ht : tk w = t) (hl : ln t ≤ 12) (X : (vx_2 ln a3 a4 a5 a17 a18 a22 a23 a24 a25 a26 rc rl rv w t m ps rg ma sv fl cl oc ou)) (hps : ps < ln t) (hx : x < 4)
    (st : lx_st ln a3 a4 a5 t (rv t) (ps, rg, ma, sv, fl, rc t, cl, oc, ou) = (ps + 1, upd rg x v, ma, sv, fl, rc t, cl, oc, ou)) :
    1 ≤ Φ ∧ (kr_a n W ln (q+1) (Φ-1) c k a1 a3 a4 a5 a6 a7 a8 a9 a10 a11 a12 a13 a14 a15 a16 a17 a18 a19 a20 a21 (upd a22 w (nI (ps + 1))) (upd a23 (4 * w + x) v) a24 a25 a26) := by
  have X' := X
  obtain ⟨e, x1, x2, x3, x4, x5, x6, x7, x8, x9, x10, x11⟩ := X
  refine ki_l H hw h1 ht hl X' st hps (by omega) (by omega) (fun r hr => ?_) x6 x7 x8 x10 x11 (fun v hv hne => ⟨rfl, rfl, fun r hr => pk_un (by omega), fun _ _ => rfl⟩) (fun s _ _ => ⟨rfl, fun _ _ => rfl⟩)
  by_cases z : r = x
  · subst z; rw [pk_us, pk_us]
  · rw [pk_un z, pk_un (by omega)]; exact x5 r hr
theorem ki_ls {m ps cc : Nat} {v : Int32} {rg : Nat → Int32} {ma : Int32} {sv : Nat → Int32} {fl : Int32} {cl : Nat → Nat} {oc : Nat} {ou : Nat → Int32}
    (H : (kr_g n W ln q Φ c k a1 a3 a4 a5 a6 a7 a8 a9 a10 a11 a12 a13 a14 a15 a16 a17 a18 a19 a20 a21 a22 a23 a24 a25 a26 tn tk ow wf pw b l cf rc rl rf rt rv)) (hw : w < 6) (h1 : a19 w = 1) (ht : tk w = t) (hl : ln t ≤ 12) (X : (vx_2 ln a3 a4 a5 a17 a18 a22 a23 a24 a25 a26 rc rl rv w t m ps rg ma sv fl cl oc ou)) (hps : ps < ln t) (hcc : cc < 16)
    (st : lx_st ln a3 a4 a5 t (rv t) (ps, rg, ma, sv, fl, rc t, cl, oc, ou) = (ps + 1, rg, ma ||| ((1 : Int32) <<< (nI cc &&& 31)), upd sv cc v, fl, rc t, cl, oc, ou)) :
    1 ≤ Φ ∧ (kr_a n W ln (q+1) (Φ-1) c k a1 a3 a4 a5 a6 a7 a8 a9 a10 a11 a12 a13 a14 a15 a16 a17 a18 a19 a20 a21 (upd a22 w (nI (ps + 1))) a23 (upd a24 w (a24 w ||| ((1 : Int32) <<< (nI cc &&& 31)))) (upd a25 (16 * w + cc) v) a26) := by
  have X' := X
  obtain ⟨e, x1, x2, x3, x4, x5, x6, x7, x8, x9, x10, x11⟩ := X
  refine ki_l H hw h1 ht hl X' st hps (by omega) (by omega) x5 (by rw [pk_us, x6]) (fun c hc hb => ?_) x8 x10 x11 (fun v hv hne => ⟨pk_un hne, rfl, fun _ _ => rfl, fun c hc => pk_un (by omega)⟩) (fun s _ _ => ⟨rfl, fun _ _ => rfl⟩)
  by_cases z : c = cc
  · subst z; rw [pk_us, pk_us]
  · rw [pk_un z, pk_un (by omega)]
    rw [xb_set _ (by omega) (by omega)] at hb
    exact x7 c hc (by simpa [z] using hb)
theorem ki_lp {m ps : Nat} {v : Int32} {rg : Nat → Int32} {ma : Int32} {sv : Nat → Int32} {fl : Int32} {cl : Nat → Nat} {oc : Nat} {ou : Nat → Int32}
    (H : (kr_g n W ln q Φ c k a1 a3 a4 a5 a6 a7 a8 a9 a10 a11 a12 a13 a14 a15 a16 a17 a18 a19 a20 a21 a22 a23 a24 a25 a26 tn tk ow wf pw b l cf rc rl rf rt rv)) (hw : w < 6) (h1 : a19 w = 1) (ht : tk w = t) (hl : ln t ≤ 12) (X : (vx_2 ln a3 a4 a5 a17 a18 a22 a23 a24 a25 a26 rc rl rv w t m ps rg ma sv fl cl oc ou)) (hps : ps < ln t)
    (st : lx_st ln a3 a4 a5 t (rv t) (ps, rg, ma, sv, fl, rc t, cl, oc, ou) = (ps + 1, rg, ma, sv, fl, rc t, cl, oc + 1, upd ou oc v)) :
    1 ≤ Φ ∧ (kr_a n W ln (q+1) (Φ-1) c k a1 a3 a4 a5 a6 a7 a8 a9 a10 a11 a12 a13 a14 a15 a16 (upd a17 t (nI (oc + 1))) (upd a18 (12 * t + oc) v) a19 a20 a21 (upd a22 w (nI (ps + 1))) a23 a24 a25 a26) := by
  have X' := X
  obtain ⟨e, x1, x2, x3, x4, x5, x6, x7, x8, x9, x10, x11⟩ := X
  obtain ⟨b1, b2, b3⟩ := lx_b m e
  refine ki_l H hw h1 ht hl X' st hps (by omega) (by omega) x5 x6 x7 x8 pk_us (fun j hj => ?_) (fun v hv hne => ⟨rfl, rfl, fun _ _ => rfl, fun _ _ => rfl⟩) (fun s _ hne => ⟨pk_un hne, fun j hj => pk_un (by omega)⟩)
  by_cases z : j = oc
  · subst z; rw [pk_us, pk_us]
  · rw [pk_un z, pk_un (by omega)]; exact x11 j (by omega)
theorem ki_lj {m ps ps' : Nat} {fl' : Int32} {a26' : Nat → Int32} {rg : Nat → Int32} {ma : Int32} {sv : Nat → Int32} {fl : Int32} {cl : Nat → Nat} {oc : Nat} {ou : Nat → Int32}
    (H : (kr_g n W ln q Φ c k a1 a3 a4 a5 a6 a7 a8 a9 a10 a11 a12 a13 a14 a15 a16 a17 a18 a19 a20 a21 a22 a23 a24 a25 a26 tn tk ow wf pw b l cf rc rl rf rt rv)) (hw : w < 6) (h1 : a19 w = 1) (ht : tk w = t) (hl : ln t ≤ 12) (X : (vx_2 ln a3 a4 a5 a17 a18 a22 a23 a24 a25 a26 rc rl rv w t m ps rg ma sv fl cl oc ou)) (hps : ps < ln t) (hps' : ps < ps') (hps13 : ps' ≤ 13) (h26 : a26' w = fl') (h26' : ∀ v, v ≠ w → a26' v = a26 v)
    (st : lx_st ln a3 a4 a5 t (rv t) (ps, rg, ma, sv, fl, rc t, cl, oc, ou) = (ps', rg, ma, sv, fl', rc t, cl, oc, ou)) :
    1 ≤ Φ ∧ (kr_a n W ln (q+1) (Φ-1) c k a1 a3 a4 a5 a6 a7 a8 a9 a10 a11 a12 a13 a14 a15 a16 a17 a18 a19 a20 a21 (upd a22 w (nI ps')) a23 a24 a25 a26') := by
  have X' := X
  obtain ⟨e, x1, x2, x3, x4, x5, x6, x7, x8, x9, x10, x11⟩ := X
  exact ki_l H hw h1 ht hl X' st hps hps' hps13 x5 x6 x7 h26 x10 x11 (fun v hv hne => ⟨rfl, h26' v hne, fun _ _ => rfl, fun _ _ => rfl⟩) (fun s _ _ => ⟨rfl, fun _ _ => rfl⟩)
end
end
section
section
variable {fN fP fW fC fK fH fQ fR : Int32} {a1 a2 a3 a4 a5 a6 a7 a8 a9 a10 a11 a12 a13 a14 a15 a16 a17 a18 a19 a20 a21 a22 a23 a24 a25 a26 : Nat → Int32} {n W q Φ c k : Nat} {ln : Nat → Nat} {w t : Nat} {tn tk ow wf pw b l cf rc : Nat → Nat} {rl rf rt : Nat → Nat → Nat} {rv : Nat → Nat → Int32}
/-- a read from outside: F says from which transaction, r the turn, v the value -/
theorem ki_r {m ps x cc F r : Nat} {v : Int32} {rg : Nat → Int32} {ma : Int32} {sv : Nat → Int32} {fl : Int32} {cl : Nat → Nat} {oc : Nat} {ou : Nat → Int32}
    (H : (kr_g n W ln q Φ c k a1 a3 a4 a5 a6 a7 a8 a9 a10 a11 a12 a13 a14 a15 a16 a17 a18 a19 a20 a21 a22 a23 a24 a25 a26 tn tk ow wf pw b l cf rc rl rf rt rv)) (hw : w < 6) (h1 : a19 w = 1) (ht : tk w = t) (hl : ln t ≤ 12) (hx : x < 4) (hcc : cc < 16) (X : (vx_2 ln a3 a4 a5 a17 a18 a22 a23 a24 a25 a26 rc rl rv w t m ps rg ma sv fl cl oc ou)) (hps : ps < ln t)
    (st : ∀ rv' : Nat → Int32, lx_st ln a3 a4 a5 t rv' (ps, rg, ma, sv, fl, rc t, cl, oc, ou) = (ps + 1, upd rg x (rv' (rc t)), ma, sv, fl, rc t + 1, ux_up cl (rc t) cc, oc, ou))
    (hF : nb_n a8 cc t = F) (hF0 : F = 0 → v = a1 cc) (hF1 : ∀ f, F = f + 1 → a9 f = 2 ∧ a7 (8 * cc + f) = nI r ∧ r ≤ tn f ∧ v = a6 (8 * cc + f)) :
    1 ≤ Φ ∧ (kr_a n W ln (q+1) (Φ-1) c k a1 a3 a4 a5 a6 a7 a8 a9 a10 a11 (upd a12 t (a12 t + 1)) (upd a13 (12 * t + rc t) (nI cc)) (upd a14 (12 * t + rc t) (nb_I F)) (upd a15 (12 * t + rc t) (nI r)) a16 a17 a18 a19 a20 a21 (upd a22 w (nI (ps + 1))) (upd a23 (4 * w + x) v) a24 a25 a26) := by
  obtain ⟨o1, o2, o3, o4, o5, o6, _⟩ := ki_o H hw h1 ht
  obtain ⟨e, x1, x2, x3, x4, x5, x6, x7, x8, x9, x10, x11⟩ := X
  obtain ⟨hc, hv⟩ := H
  obtain ⟨b1, b2, b3⟩ := lx_b m e
  obtain ⟨r1, r2⟩ := hv.1 t o3 (Or.inl o4)
  obtain ⟨q1, q2, q3⟩ := r1
  have hFt : F ≤ t := by rw [← hF]; exact nb_le _ _ _
  have hR : ∀ s, s < n → (rh_h a7 a8 a9 rc rl rf rt s) → (rh_h a7 a8 a9 (ux_up rc t (rc t + 1)) (ux_up rl t (ux_up (rl t) (rc t) cc)) (ux_up rf t (ux_up (rf t) (rc t) F)) (ux_up rt t (ux_up (rt t) (rc t) r))) s := by
    intro s hs hr
    by_cases z : s = t
    · subst z
      intro j hj
      rw [ux_s] at hj
      rw [ux_s, ux_s, ux_s]
      by_cases z : j = rc s
      · subst z
        rw [ux_s, ux_s, ux_s]
        exact ⟨hF, fun f hf => ⟨(hF1 f hf).1, (hF1 f hf).2.1⟩⟩
      · rw [ux_n _ _ z, ux_n _ _ z, ux_n _ _ z]
        exact hr j (by omega)
    · intro j hj
      rw [ux_n _ _ z] at hj
      rw [ux_n _ _ z, ux_n _ _ z, ux_n _ _ z]
      exact hr j hj
  obtain ⟨e1, g⟩ := cs_9 (p' := nI (ps + 1)) (R' := rh_h a7 a8 a9 (ux_up rc t (rc t + 1)) (ux_up rl t (ux_up (rl t) (rc t) cc)) (ux_up rf t (ux_up (rf t) (rc t) F)) (ux_up rt t (ux_up (rt t) (rc t) r))) hc hw h1
    (by rw [x4, nI_clamp (by omega), nI_clamp (by omega)]; omega) (by rw [x4, nI_clamp (by omega)]; omega) hR
  · rw [ht] at g
    refine ⟨e1, _, _, _, _, _, _, _, _, _, _, _, _, ux_up rv t (ux_up (rv t) (rc t) v), g, ?_⟩
    refine vt_9 (w := w) (t := t) hv ht o4 o5 ?_ ?_ ?_ ?_ ?_ o6
    · refine ⟨m + 1, ps + 1, upd rg x v, ma, sv, fl, ux_up cl (rc t) cc, oc, ou, ?_, by omega, by omega, by omega, pk_us, ?_, x6, x7, x8, ?_, x10, x11⟩
      · rw [ux_s, ux_s]
        have e' := lx_itc (rv' := ux_up (rv t) (rc t) v) m e (fun j hj => ux_n _ _ (by omega))
        show lx_st ln a3 a4 a5 t (ux_up (rv t) (rc t) v) (lx_it ln a3 a4 a5 t (ux_up (rv t) (rc t) v) m) = _
        rw [e', st, ux_s]
      · intro i hi
        by_cases z : i = x
        · subst z; rw [pk_us, pk_us]
        · rw [pk_un z, pk_un (by omega)]; exact x5 i hi
      · rw [ux_s, ux_s]
        intro j hj
        by_cases z : j = rc t
        · subst z; rw [ux_s, ux_s]
        · rw [ux_n _ _ z, ux_n _ _ z]; exact x9 j (by omega)
    · refine ⟨?_, ?_, ?_⟩
      · rw [pk_us, ux_s, q1, nI_1]
      · rw [ux_s]; omega
      · rw [ux_s, ux_s, ux_s, ux_s]
        intro j hj
        by_cases z : j = rc t
        · subst z
          rw [ux_s, ux_s, ux_s, pk_us, pk_us, pk_us]
          exact ⟨hcc, rfl, rfl, rfl, hFt⟩
        · rw [ux_n _ _ z, ux_n _ _ z, ux_n _ _ z, pk_un (by omega), pk_un (by omega), pk_un (by omega)]
          exact q3 j (by omega)
    · rw [ux_s]
      intro j hj
      unfold vr_v
      rw [ux_s, ux_s, ux_s, ux_s]
      by_cases z : j = rc t
      · subst z
        rw [ux_s, ux_s, ux_s, ux_s]
        refine ⟨hF0, fun f hf => ?_⟩
        obtain ⟨f1, f2, f3, f4⟩ := hF1 f hf
        exact ⟨f3, fun u => absurd f1 u, fun _ => f4.symm⟩
      · rw [ux_n _ _ z, ux_n _ _ z, ux_n _ _ z, ux_n _ _ z]
        exact r2 j (by omega)
    · intro s hs hst
      refine ⟨ux_n _ _ hst, ux_n _ _ hst, ux_n _ _ hst, ux_n _ _ hst, ux_n _ _ hst, pk_un hst, rfl, fun j hj => ?_⟩
      exact ⟨pk_un (by omega), pk_un (by omega), pk_un (by omega), rfl⟩
    · intro u hu huw
      exact ⟨pk_un huw, rfl, rfl, fun i hi => pk_un (by omega), fun _ _ => rfl⟩
/-- a worker's transaction has to wait -/
theorem ki_w {f : Nat} {p : Nat} (H : (kr_g n W ln q Φ c k a1 a3 a4 a5 a6 a7 a8 a9 a10 a11 a12 a13 a14 a15 a16 a17 a18 a19 a20 a21 a22 a23 a24 a25 a26 tn tk ow wf pw b l cf rc rl rf rt rv)) (hw : w < 6) (h1 : a19 w = 1) (ht : tk w = t) (hp : a22 w = nI p) (hp2 : p < 12) (hf : f < t) (hf2 : a9 f ≠ 2) {p' : Int32} :
    1 ≤ Φ ∧ (kr_a n W ln (q+1) (Φ-1) c k a1 a3 a4 a5 a6 a7 a8 (upd a9 t 3) a10 (upd a11 f (a11 f ||| ((1 : Int32) <<< (nI t &&& 31)))) a12 a13 a14 a15 a16 a17 a18 (upd a19 w 0) a20 a21 (upd a22 w p') a23 a24 a25 a26) := by
  obtain ⟨o1, o2, o3, o4, o5, o6, o7, _⟩ := ki_o H hw h1 ht
  obtain ⟨hc, hv⟩ := H
  subst ht
  have h11 : ∀ i d, i < 8 → d < 8 → (xb_bt (upd a11 f (a11 f ||| ((1 : Int32) <<< (nI (tk w) &&& 31))) i) d = true ↔ xb_bt (a11 i) d = true ∨ (i = f ∧ d = tk w)) := by
    intro i d hi hd
    by_cases z : i = f
    · subst z
      rw [pk_us, xb_set _ (by omega) (by omega)]
      simp
    · rw [pk_un z]
      constructor
      · exact fun u => Or.inl u
      · rintro (u | u)
        · exact u
        · exact absurd u.1 z
  obtain ⟨e1, g⟩ := cs_12 (p' := p') (a11' := upd a11 f (a11 f ||| ((1 : Int32) <<< (nI (tk w) &&& 31)))) (R' := rh_h a7 a8 (upd a9 (tk w) 3) rc rl rf rt) hc hw h1 hf hf2 (by rw [hp, nI_clamp (by omega)]; exact hp2) h11
    (fun s hs hr => rh_1 (by rw [o4]; decide) rfl rfl rfl rfl hr)
  exact ⟨e1, _, _, _, _, _, _, _, _, rc, rl, rf, rt, rv, g, vt_12 hv o4 o5⟩
/-- a worker's transaction ends -/
theorem ki_f {x : Int32} {r : Int32} {c' : Nat} {a6' a7' a9' a10' : Nat → Int32} (H : (kr_g n W ln q Φ c k a1 a3 a4 a5 a6 a7 a8 a9 a10 a11 a12 a13 a14 a15 a16 a17 a18 a19 a20 a21 a22 a23 a24 a25 a26 tn tk ow wf pw b l cf rc rl rf rt rv)) (hw : w < 6) (h1 : a19 w = 1) (ht : tk w = t) (hq : q < 2 ^ 30)
    (hp : ln t ≤ (a22 w).toNatClampNeg) (hx : x = if a26 w = 0 then a24 w else 0)
    (h67 : wf_v a6' a7' a6 a7 a10 a25 w t x) (hr : r = 0 → ∀ c, c < 16 → xb_bt x c = true → xb_bt (a8 t) c = true) (h36 : wf_s c' a9' a10' c (upd a9 t 2) a10 (a11 t) 8) :
    1 ≤ Φ ∧
    (k ≤ t → (kr_a n W ln (q+1) (Φ-1) c' k a1 a3 a4 a5 a6' a7' (upd a8 t x) a9' a10' (upd a11 t 0) a12 a13 a14 a15 (upd a16 t (vp_nar .boolean (a26 w))) a17 a18 (upd a19 w 0) a20 a21 a22 a23 a24 a25 a26)) ∧
    (t < k → (kr_a n W ln (q+1) (Φ-1) c' t a1 a3 a4 a5 a6' a7' (upd a8 t x) a9' a10' (upd a11 t 0) a12 a13 a14 a15 (upd a16 t (vp_nar .boolean (a26 w))) a17 a18 (upd a19 w 0) a20 a21 a22 a23 a24 a25 a26)) ∧
    (r = 0 → (kr_a n W ln (q+1) (Φ-1) c' k a1 a3 a4 a5 a6' a7' (upd a8 t x) a9' a10' (upd a11 t 0) a12 a13 a14 a15 (upd a16 t (vp_nar .boolean (a26 w))) a17 a18 (upd (upd a19 w 0) w 2) (upd a20 w (nI t)) (upd a21 w (a10' t)) a22 a23 a24 a25 a26)) := by
  obtain ⟨o1, o2, o3, o4, o5, o6, o7, o8, o9⟩ := ki_o H hw h1 ht
  obtain ⟨hc, hv⟩ := H
  subst ht
  obtain ⟨w9, w10, w1, w2⟩ := h36
  have htn := hc.2.2.2.2.1
  have hw1 := hc.2.2.2.2.2.2.2.2.2.2.1
  have hw2 := hc.2.2.2.2.2.2.2.2.2.2.2.1
  have wn : ¬ xb_bt (a11 (tk w)) (tk w) = true := by
    intro z
    have := (hw2 (tk w) (by omega) (tk w) (by omega) z).2.1
    rw [o4] at this
    exact absurd this (by decide)
  have S : cf_s c' a9' a10' c w a9 a10 a11 tk := by
    refine ⟨fun d hd => ?_, fun d hd => ?_, w1, fun d hd => w2 d hd⟩
    · rw [w9 d hd]
      by_cases z : d = tk w
      · rw [if_pos z, if_neg (by rw [z]; exact fun u => wn u.2), z, pk_us]
      · rw [if_neg z]
        by_cases y : xb_bt (a11 (tk w)) d = true
        · rw [if_pos y, if_pos ⟨hd, y⟩]
        · rw [if_neg y, if_neg (fun u => y u.2), pk_un z]
    · rw [w10 d hd]
      by_cases y : xb_bt (a11 (tk w)) d = true
      · rw [if_pos y, if_pos ⟨hd, y⟩]
      · rw [if_neg y, if_neg (fun u => y u.2)]
  have hb : ∀ d, d < 8 → xb_bt (a11 (tk w)) d = true → d < n ∧ a9 d = 3 ∧ tk w < d := by
    intro d hd hb
    obtain ⟨z1, z2, z3⟩ := hw2 (tk w) (by omega) d hd hb
    have := (hw1 d z1 z2).1
    exact ⟨z1, z2, by omega⟩
  have fl01 : a26 w = 0 ∨ a26 w = 1 := by
    obtain ⟨m, ps, rg, ma, sv, fl, cl, oc, ou, e, _, _, _, _, _, _, _, x8, _⟩ := hv.2.2.1 w hw h1
    rw [x8]; exact (lx_b m e).2.2
  have nar : vp_nar .boolean (a26 w) = a26 w := by
    rcases fl01 with z | z <;> rw [z] <;> rfl
  have n9 : ∀ d, d < n → d ≠ tk w → (a9' d = a9 d ∧ (if xb_bt (a11 (tk w)) d = true then tn d + 1 else tn d) = tn d) ∨ (a9 d = 3 ∧ a9' d = 0 ∧ (if xb_bt (a11 (tk w)) d = true then tn d + 1 else tn d) = tn d + 1) := by
    intro d hd hne
    rw [S.1 d (by omega), if_neg hne]
    by_cases y : xb_bt (a11 (tk w)) d = true
    · rw [if_pos y, if_pos y]
      exact Or.inr ⟨(hb d (by omega) y).2.1, rfl, rfl⟩
    · rw [if_neg y, if_neg y]; exact Or.inl ⟨rfl, rfl⟩
  have a9t : a9' (tk w) = 2 := by rw [S.1 (tk w) (by omega), if_pos rfl]
  have V : ∀ a19' : Nat → Int32, (∀ v, v < 6 → a19' v = 1 → a19 v = 1) → (vx_a n ln a1 a3 a4 a5 a6' a7' (upd a8 (tk w) x) a9' a12 a13 a14 a15 (upd a16 (tk w) (vp_nar .boolean (a26 w))) a17 a18 a19' a22 a23 a24 a25 a26 (fun d => if xb_bt (a11 (tk w)) d = true then tn d + 1 else tn d) tk rc rl rf rt rv) := by
    intro a19' h19
    refine vt_8 (w := w) (t := tk w) hv hw h1 rfl o3 (by omega) o4 hp (fun f hf => ?_) ?_ ?_ (fun s hs => pk_un hs) ?_ (fun s hs => pk_un hs) a9t n9 ?_ h19
    · have := (htn f hf).2; omega
    · intro c hc f hf
      rw [pk_us, ← (htn (tk w) o3).1]
      exact h67 c hc f hf
    · rw [pk_us]; exact hx
    · rw [pk_us]; exact nar
    · rw [if_neg wn]
  have l16 : ∀ s, s < n → (a9 s = 1 ∨ a9 s = 2) → ∀ j, j < rc s → rl s j < 16 := fun s hs h j hj => ((hv.1 s hs h).1.2.2 j hj).1
  have le : ∀ s, s ≤ tk w → (a9 s = 1 ∨ a9 s = 2) → rh_h a7 a8 a9 rc rl rf rt s → rh_h a7' (upd a8 (tk w) x) a9' rc rl rf rt s := by
    intro s hs hs9 hr'
    refine rh_lt (l16 s (by omega) hs9) hs (fun f hf h2 => ?_) (fun f hf => pk_un (by omega)) (fun c hc f hf => ?_) hr'
    · rw [S.1 f (by omega), if_neg (by omega), if_neg]
      · exact h2
      · intro y; have := hb f (by omega) y; omega
    · exact ((h67 c hc f (by omega)).2 (fun u => by omega)).2
  have gt : r = 0 → ∀ s, s < n → (a9 s = 1 ∨ a9 s = 2) → rh_h a7 a8 a9 rc rl rf rt s → rh_h a7' (upd a8 (tk w) x) a9' rc rl rf rt s := by
    intro r0 s hs hs9 hr'
    refine rh_gt (t := tk w) (l16 s hs hs9) (by rw [o4]; decide) (by omega) (fun f hf hne h2 => ?_) (fun f hf => pk_un hf) (fun c hc hbc => ?_) (fun c hc f hf hne => ?_) hr'
    · rw [S.1 f (by omega), if_neg hne, if_neg]
      · exact h2
      · intro y
        have := (hb f (by omega) y).2.1
        rw [h2] at this
        exact absurd this (by decide)
    · rw [pk_us] at hbc; exact hr r0 c hc hbc
    · exact ((h67 c hc f hf).2 (fun u => hne u.1)).2
  have V0 : ∀ v, v < 6 → upd a19 w 0 v = 1 → a19 v = 1 := by
    intro v _ hv1
    by_cases z : v = w
    · subst z; rw [pk_us] at hv1; exact absurd hv1 (by decide)
    · rw [pk_un z] at hv1; exact hv1
  have V2 : ∀ v, v < 6 → upd (upd a19 w 0) w 2 v = 1 → a19 v = 1 := by
    intro v _ hv1
    by_cases z : v = w
    · subst z; rw [pk_us] at hv1; exact absurd hv1 (by decide)
    · rw [pk_un z, pk_un z] at hv1; exact hv1
  refine ⟨(cs_8a (k' := 0) (R' := rh_h a7' (upd a8 (tk w) x) a9' rc rl rf rt) hc hw h1 S le (by omega) (by omega)).1, fun hk => ?_, fun hk => ?_, fun r0 => ?_⟩
  · obtain ⟨_, g⟩ := cs_8a (k' := k) (R' := rh_h a7' (upd a8 (tk w) x) a9' rc rl rf rt) hc hw h1 S le (Nat.le_refl _) hk
    exact ⟨_, _, _, _, _, _, _, _, rc, rl, rf, rt, rv, g, V _ V0⟩
  · obtain ⟨_, g⟩ := cs_8a (k' := tk w) (R' := rh_h a7' (upd a8 (tk w) x) a9' rc rl rf rt) hc hw h1 S le (by omega) (Nat.le_refl _)
    exact ⟨_, _, _, _, _, _, _, _, rc, rl, rf, rt, rv, g, V _ V0⟩
  · obtain ⟨_, g⟩ := cs_8c (R' := rh_h a7' (upd a8 (tk w) x) a9' rc rl rf rt) hc hw h1 S (gt r0)
    exact ⟨_, _, _, _, _, _, _, _, rc, rl, rf, rt, rv, g, V _ V2⟩
end
end
section
theorem uy_uu (f : Nat → Int32) (k : Nat) (x y : Int32) : upd (upd f k x) k y = upd f k y := by
  funext j
  simp only [uy_e]
  split <;> rfl
theorem wa_12 (t i : Nat) : (12 : Int32) * nI t + nI i = nI (12 * t + i) := by rw [← nI_add, ← pk_mul]; rfl
theorem wa_16 (t i : Nat) : (16 : Int32) * nI t + nI i = nI (16 * t + i) := by rw [← nI_add, ← pk_mul]; rfl
theorem wa_8 (t i : Nat) : (8 : Int32) * nI t + nI i = nI (8 * t + i) := by rw [← nI_add, ← pk_mul]; rfl
theorem wa_4 (t i : Nat) : (4 : Int32) * nI t + nI i = nI (4 * t + i) := by rw [← nI_add, ← pk_mul]; rfl
section
variable {fN fP fW fC fK fH fQ fR : Int32} {a1 a2 a3 a4 a5 a6 a7 a8 a9 a10 a11 a12 a13 a14 a15 a16 a17 a18 a19 a20 a21 a22 a23 a24 a25 a26 : Nat → Int32} {w t x y cc : Nat}
theorem wk_cm {post : St2 → Prop} {o u : Int32} (hx : x < 24) (hy : y < 24) (hp : post (fN, fP, fW, fC, fK, fH, fQ, fR, a1, a2, a3, a4, a5, a6, a7, a8, a9, a10, a11, a12, a13, a14, a15, a16, a17, a18, a19, a20, a21, a22, upd a23 x (lx_cm o u (a23 x) (a23 y)), a24, a25, a26)) : wpX_compute post (fN, fP, fW, fC, fK, fH, fQ, fR, a1, a2, a3, a4, a5, a6, a7, a8, a9, a10, a11, a12, a13, a14, a15, a16, a17, a18, a19, a20, a21, a22, a23, a24, a25, a26) o (nI x) (nI y) u := by
  unfold wpX_compute
  dsimp only
  rw [nI_clamp (show x < 2 ^ 31 by omega), nI_clamp (show y < 2 ^ 31 by omega)]
  unfold lx_cm at hp
  refine br_c (fun z => ⟨pk_in x 24 hx, nm_e ?_⟩) (fun z => br_c (fun z1 => ⟨pk_in x 24 hx, pk_in y 24 hy, pk_in x 24 hx, nm_e ?_⟩) (fun z1 => br_c (fun z2 => ⟨pk_in x 24 hx, pk_in y 24 hy, pk_in x 24 hx, nm_e ?_⟩) (fun z2 => ⟨pk_in x 24 hx, pk_in y 24 hy, pk_in x 24 hx, nm_e ?_⟩)))
  · rw [if_pos z] at hp; exact hp
  · rw [if_neg z, if_pos z1] at hp; exact hp
  · rw [if_neg z, if_neg z1, if_pos z2] at hp; exact hp
  · rw [if_neg z, if_neg z1, if_neg z2] at hp; exact hp
theorem wk_sf {post : St2 → Prop} {v : Int32} (hw : w < 6) (hc : cc < 16) (hp : post (fN, fP, fW, fC, fK, fH, fQ, fR, a1, a2, a3, a4, a5, a6, a7, a8, a9, a10, a11, a12, a13, a14, a15, a16, a17, a18, a19, a20, a21, a22, a23, upd a24 w (a24 w ||| ((1 : Int32) <<< (nI cc &&& 31))), upd a25 (16 * w + cc) v, a26)) : wpX_storeFrom post (fN, fP, fW, fC, fK, fH, fQ, fR, a1, a2, a3, a4, a5, a6, a7, a8, a9, a10, a11, a12, a13, a14, a15, a16, a17, a18, a19, a20, a21, a22, a23, a24, a25, a26) (nI w) (nI cc) v := by
  unfold wpX_storeFrom
  dsimp only
  rw [wa_16, nI_clamp (show w < 2 ^ 31 by omega), nI_clamp (show 16 * w + cc < 2 ^ 31 by omega)]
  exact ⟨pk_in w 6 hw, pk_in w 6 hw, nm_e ⟨pk_in (16 * w + cc) 96 (by omega), nm_e hp⟩⟩
theorem wk_sr {post : St2 → Prop} {o u : Int32} (hw : w < 6) (hx : x < 24) (hy : y < 24)
    (h6a : o = 6 → a23 y ≤ a23 x → post (fN, fP, fW, fC, fK, fH, fQ, fR, a1, a2, a3, a4, a5, a6, a7, a8, a9, a10, a11, a12, a13, a14, a15, a16, a17, a18, a19, a20, a21, upd a22 w (a22 w + 0), a23, a24, a25, a26)) (h6b : o = 6 → ¬ a23 y ≤ a23 x → post (fN, fP, fW, fC, fK, fH, fQ, fR, a1, a2, a3, a4, a5, a6, a7, a8, a9, a10, a11, a12, a13, a14, a15, a16, a17, a18, a19, a20, a21, upd a22 w (a22 w + 1), a23, a24, a25, a26))
    (h7 : ¬ o = 6 → o = 7 → ¬ u ≤ a23 x → post (fN, fP, fW, fC, fK, fH, fQ, fR, a1, a2, a3, a4, a5, a6, a7, a8, a9, a10, a11, a12, a13, a14, a15, a16, a17, a18, a19, a20, a21, upd a22 w 12, a23, a24, a25, upd a26 w 1)) (h11 : ¬ o = 6 → ¬ (o = 7 ∧ ¬ u ≤ a23 x) → o = 11 → post (fN, fP, fW, fC, fK, fH, fQ, fR, a1, a2, a3, a4, a5, a6, a7, a8, a9, a10, a11, a12, a13, a14, a15, a16, a17, a18, a19, a20, a21, upd a22 w 12, a23, a24, a25, a26))
    (he : ¬ o = 6 → ¬ (o = 7 ∧ ¬ u ≤ a23 x) → ¬ o = 11 → post (fN, fP, fW, fC, fK, fH, fQ, fR, a1, a2, a3, a4, a5, a6, a7, a8, a9, a10, a11, a12, a13, a14, a15, a16, a17, a18, a19, a20, a21, a22, a23, a24, a25, a26)) : wpX_steer post (fN, fP, fW, fC, fK, fH, fQ, fR, a1, a2, a3, a4, a5, a6, a7, a8, a9, a10, a11, a12, a13, a14, a15, a16, a17, a18, a19, a20, a21, a22, a23, a24, a25, a26) (nI w) o (nI x) (nI y) u := by
  have k74 : ¬ o = 6 → ¬ (o = 7 ∧ ¬ u ≤ a23 x) → wX_steer_74 post (nI w) o fN fP fW fC fK fH fQ fR a1 a2 a3 a4 a5 a6 a7 a8 a9 a10 a11 a12 a13 a14 a15 a16 a17 a18 a19 a20 a21 a22 a23 a24 a25 a26 := by
    intro z1 z2
    unfold wX_steer_74
    rw [nI_clamp (show w < 2 ^ 31 by omega)]
    exact br_c (fun z => ⟨pk_in w 6 hw, nm_e (h11 z1 z2 z)⟩) (fun z => he z1 z2 z)
  unfold wpX_steer
  dsimp only
  rw [nI_clamp (show w < 2 ^ 31 by omega), nI_clamp (show x < 2 ^ 31 by omega), nI_clamp (show y < 2 ^ 31 by omega)]
  refine br_c (fun z => ⟨pk_in w 6 hw, pk_in x 24 hx, pk_in y 24 hy, br_c (fun z1 => ⟨pk_in w 6 hw, nm_e (h6a z z1)⟩) (fun z1 => ⟨pk_in w 6 hw, nm_e (h6b z z1)⟩)⟩) (fun z => br_c (fun z1 => ⟨pk_in x 24 hx, br_c (fun z2 => k74 z (fun u => u.2 z2)) (fun z2 => ⟨pk_in w 6 hw, nm_e ⟨pk_in w 6 hw, nm_e (h7 z z1 z2)⟩⟩)⟩) (fun z1 => k74 z (fun u => z1 u.1)))
theorem wk_155 {post : Int32 → St2 → Prop} {F p rcn : Nat} {z : Int32} (ht : t < 8) (hx : x < 24) (hc : cc < 16) (hF : F ≤ 8) (hp : p < 96) (h12 : a12 t = nI rcn)
    (h0 : F = 0 → post 1 (fN, fP, fW, fC, fK, fH, fQ, fR, a1, a2, a3, a4, a5, a6, a7, a8, a9, a10, a11, upd a12 t (a12 t + 1), a13, a14, upd a15 p z, a16, a17, a18, a19, a20, a21, a22, upd a23 x (a1 cc), a24, a25, a26))
    (h1 : ∀ f, F = f + 1 → post 1 (fN, fP, fW, fC, fK, fH, fQ, fR, a1, a2, a3, a4, a5, a6, a7, a8, a9, a10, a11, upd a12 t (a12 t + 1), a13, a14, upd a15 p z, a16, a17, a18, a19, a20, a21, a22, upd a23 x (a6 (8 * cc + f)), a24, a25, a26)) :
    wX_readInto_155 post (nI cc) (nI x) (nI t) (nb_I F) z (nI p) fN fP fW fC fK fH fQ fR a1 a2 a3 a4 a5 a6 a7 a8 a9 a10 a11 a12 a13 a14 a15 a16 a17 a18 a19 a20 a21 a22 a23 a24 a25 a26 := by
  unfold wX_readInto_155
  rw [nI_clamp (show p < 2 ^ 31 by omega), nI_clamp (show t < 2 ^ 31 by omega), nI_clamp (show x < 2 ^ 31 by omega), nI_clamp (show cc < 2 ^ 31 by omega)]
  refine ⟨pk_in p 96 hp, nm_e ⟨pk_in t 8 ht, pk_in t 8 ht, nm_e ?_⟩⟩
  cases F with
  | zero => exact br_f (by decide) ⟨pk_in cc 16 hc, pk_in x 24 hx, nm_e (h0 rfl)⟩
  | succ f =>
    refine br_t (nI_pos' (by omega)) ?_
    unfold wpX_versionAt
    show vp_in ((8 : Int32) * nI cc + nI f) 128 ∧ _
    show vp_in ((8 : Int32) * nI cc + nI f) 128 ∧ (vp_in (nI x) 24 ∧ ∀ a : Nat → Int32, a = upd a23 x (a6 ((8 : Int32) * nI cc + nI f).toNatClampNeg) → _)
    rw [wa_8, nI_clamp (show 8 * cc + f < 2 ^ 31 by omega)]
    exact ⟨pk_in (8 * cc + f) 128 (by omega), pk_in x 24 hx, nm_e (h1 f rfl)⟩
theorem wk_97 {post : Int32 → St2 → Prop} {F rcn : Nat} (ht : t < 8) (hx : x < 24) (hc : cc < 16) (hF : F ≤ 8) (h12 : a12 t = nI rcn) (hrc : rcn < 12)
    (h0 : F = 0 → post 1 (fN, fP, fW, fC, fK, fH, fQ, fR, a1, a2, a3, a4, a5, a6, a7, a8, a9, a10, a11, upd a12 t (a12 t + 1), upd a13 (12 * t + rcn) (nI cc), upd a14 (12 * t + rcn) (nb_I F), upd a15 (12 * t + rcn) 0, a16, a17, a18, a19, a20, a21, a22, upd a23 x (a1 cc), a24, a25, a26))
    (h1 : ∀ f, F = f + 1 → post 1 (fN, fP, fW, fC, fK, fH, fQ, fR, a1, a2, a3, a4, a5, a6, a7, a8, a9, a10, a11, upd a12 t (a12 t + 1), upd a13 (12 * t + rcn) (nI cc), upd a14 (12 * t + rcn) (nb_I F), upd a15 (12 * t + rcn) (a7 (8 * cc + f)), a16, a17, a18, a19, a20, a21, a22, upd a23 x (a6 (8 * cc + f)), a24, a25, a26)) :
    wX_readInto_97 post (nI cc) (nI x) (nI t) (nb_I F) fN fP fW fC fK fH fQ fR a1 a2 a3 a4 a5 a6 a7 a8 a9 a10 a11 a12 a13 a14 a15 a16 a17 a18 a19 a20 a21 a22 a23 a24 a25 a26 := by
  unfold wX_readInto_97
  rw [nI_clamp (show t < 2 ^ 31 by omega)]
  refine ⟨pk_in t 8 ht, nm_r (show (12 : Int32) * nI t + a12 t = nI (12 * t + rcn) from (by rw [h12]; exact wa_12 t rcn)) ?_⟩
  rw [nI_clamp (show 12 * t + rcn < 2 ^ 31 by omega)]
  refine ⟨pk_in (12 * t + rcn) 96 (by omega), nm_e ⟨pk_in (12 * t + rcn) 96 (by omega), nm_e ?_⟩⟩
  cases F with
  | zero => exact br_f (by decide) (wk_155 (F := 0) ht hx hc hF (by omega) h12 h0 (fun f hf => absurd hf (by omega)))
  | succ f =>
    refine br_t (nI_pos' (by omega)) ?_
    unfold wpX_versionAt
    show vp_in ((8 : Int32) * nI cc + nI f) 128 ∧ wX_readInto_155 post (nI cc) (nI x) (nI t) (nb_I (f + 1)) (a7 ((8 : Int32) * nI cc + nI f).toNatClampNeg) (nI (12 * t + rcn)) fN fP fW fC fK fH fQ fR a1 a2 a3 a4 a5 a6 a7 a8 a9 a10 a11 a12 (upd a13 (12 * t + rcn) (nI cc)) (upd a14 (12 * t + rcn) (nb_I (f + 1))) a15 a16 a17 a18 a19 a20 a21 a22 a23 a24 a25 a26
    rw [wa_8, nI_clamp (show 8 * cc + f < 2 ^ 31 by omega)]
    refine ⟨pk_in (8 * cc + f) 128 (by omega), wk_155 (F := f + 1) ht hx hc hF (by omega) h12 (fun hf => absurd hf (by omega)) (fun f' hf => ?_)⟩
    have : f = f' := by omega
    subst this
    exact h1 f rfl
theorem wk_ri {post : Int32 → St2 → Prop} {rcn : Nat} (hw : w < 6) (ht : t < 8) (h20 : a20 w = nI t) (hc : cc < 16) (hx : x < 24) (h12 : a12 t = nI rcn) (hrc : rcn < 12)
    (hown : xb_bt (a24 w) cc = true → post 1 (fN, fP, fW, fC, fK, fH, fQ, fR, a1, a2, a3, a4, a5, a6, a7, a8, a9, a10, a11, a12, a13, a14, a15, a16, a17, a18, a19, a20, a21, a22, upd a23 x (a25 (16 * w + cc)), a24, a25, a26))
    (hwait : ¬ xb_bt (a24 w) cc = true → ∀ f, nb_n a8 cc t = f + 1 → a9 f ≠ 2 → post 0 (fN, fP, fW, fC, fK, fH, fQ, fR, a1, a2, a3, a4, a5, a6, a7, a8, upd a9 t 3, a10, upd a11 f (a11 f ||| ((1 : Int32) <<< (nI t &&& 31))), a12, a13, a14, a15, a16, a17, a18, upd a19 w 0, a20, a21, a22, a23, a24, a25, a26))
    (h0 : ¬ xb_bt (a24 w) cc = true → nb_n a8 cc t = 0 → post 1 (fN, fP, fW, fC, fK, fH, fQ, fR, a1, a2, a3, a4, a5, a6, a7, a8, a9, a10, a11, upd a12 t (a12 t + 1), upd a13 (12 * t + rcn) (nI cc), upd a14 (12 * t + rcn) (nb_I (nb_n a8 cc t)), upd a15 (12 * t + rcn) 0, a16, a17, a18, a19, a20, a21, a22, upd a23 x (a1 cc), a24, a25, a26))
    (h1 : ¬ xb_bt (a24 w) cc = true → ∀ f, nb_n a8 cc t = f + 1 → a9 f = 2 → post 1 (fN, fP, fW, fC, fK, fH, fQ, fR, a1, a2, a3, a4, a5, a6, a7, a8, a9, a10, a11, upd a12 t (a12 t + 1), upd a13 (12 * t + rcn) (nI cc), upd a14 (12 * t + rcn) (nb_I (nb_n a8 cc t)), upd a15 (12 * t + rcn) (a7 (8 * cc + f)), a16, a17, a18, a19, a20, a21, a22, upd a23 x (a6 (8 * cc + f)), a24, a25, a26)) :
    wpX_readInto post (fN, fP, fW, fC, fK, fH, fQ, fR, a1, a2, a3, a4, a5, a6, a7, a8, a9, a10, a11, a12, a13, a14, a15, a16, a17, a18, a19, a20, a21, a22, a23, a24, a25, a26) (nI w) (nI cc) (nI x) := by
  unfold wpX_readInto
  dsimp only
  rw [wa_16, nI_clamp (show w < 2 ^ 31 by omega), nI_clamp (show x < 2 ^ 31 by omega), nI_clamp (show 16 * w + cc < 2 ^ 31 by omega)]
  refine ⟨pk_in w 6 hw, nm_r h20 ⟨pk_in w 6 hw, ek_if (xb_test (a24 w) (by omega)) (fun b => ⟨pk_in (16 * w + cc) 96 (by omega), pk_in x 24 hx, nm_e (hown b)⟩) (fun b => wk_nb hc (by omega) ?_)⟩⟩
  have hl := nb_le a8 cc t
  cases hF : nb_n a8 cc t with
  | zero =>
    refine br_t (by decide) (wk_97 (F := 0) ht hx hc (by omega) h12 hrc (fun _ => ?_) (fun f hf => absurd hf (by omega)))
    have := h0 b hF
    rw [hF] at this
    exact this
  | succ f =>
    refine br_f (nI_pos (by omega)) ?_
    show vp_in (nI f) 8 ∧ _
    refine ⟨pk_in f 8 (by omega), ?_⟩
    have ef : (nb_I (f + 1)).toNatClampNeg = f := nI_clamp (by omega)
    rw [ef]
    refine br_c (fun z => wk_97 (F := f + 1) ht hx hc (by omega) h12 hrc (fun hf => absurd hf (by omega)) (fun f' hf => ?_)) (fun z => ⟨pk_in f 8 (by omega), pk_in f 8 (by omega), nm_e ?_⟩)
    · have : f = f' := by omega
      subst this
      have := h1 b f hF z
      rw [hF] at this
      exact this
    · rw [nI_clamp (show t < 2 ^ 31 by omega)]
      exact ⟨pk_in t 8 ht, nm_e ⟨pk_in w 6 hw, nm_e (hwait b f hF z)⟩⟩
end
end
section
theorem wa_x : ∀ p, p < 16 → nI p >>> ((2 : Int32) &&& 31) = nI (p / 4) ∧ nI p &&& 3 = nI (p % 4) := by decide +kernel
theorem wa_lx {p : Nat} (h : p < 16) : lx_x (nI p) = p / 4 := by
  unfold lx_x
  rw [(wa_x p h).1, nI_clamp (by omega)]
theorem wa_ly {p : Nat} (h : p < 16) : lx_y (nI p) = p % 4 := by
  unfold lx_y
  rw [(wa_x p h).2, nI_clamp (by omega)]
section
variable {fN fP fW fC fK fH fQ fR : Int32} {a1 a2 a3 a4 a5 a6 a7 a8 a9 a10 a11 a12 a13 a14 a15 a16 a17 a18 a19 a20 a21 a22 a23 a24 a25 a26 : Nat → Int32} {n W q Φ c k : Nat} {ln : Nat → Nat} {w : Nat}
theorem wk_carry {post : St2 → Prop} (H : (kr_a n W ln q Φ c k a1 a3 a4 a5 a6 a7 a8 a9 a10 a11 a12 a13 a14 a15 a16 a17 a18 a19 a20 a21 a22 a23 a24 a25 a26)) (P : (kr_p n ln a2 a4)) (hq : q < 2 ^ 30) (hw : w < 6) (h1 : a19 w = 1) (hp : 1 ≤ Φ → (kr_h n W ln (q+1) (Φ-1) fN fP fW fH fQ fR a1 a2 a3 a4 a5 post)) : wpX_carryOn post (fN, fP, fW, nI c, nI k, fH, fQ, fR, a1, a2, a3, a4, a5, a6, a7, a8, a9, a10, a11, a12, a13, a14, a15, a16, a17, a18, a19, a20, a21, a22, a23, a24, a25, a26) (nI w) := by
  obtain ⟨tn, tk, ow, wf, pw, b, l, cf, rc, rl, rf, rt, rv, H⟩ := H
  obtain ⟨t, ht⟩ : ∃ t, tk w = t := ⟨_, rfl⟩
  obtain ⟨o1, o2, o3, o4, o5, o6, o7, o8, o9⟩ := ki_o H hw h1 ht
  have X := H.2.2.2.1 w hw h1
  rw [ht] at X
  obtain ⟨m, ps, rg, ma, sv, fl, cl, oc, ou, X⟩ := X
  obtain ⟨e, x1, x2, x3, x4, x5, x6, x7, x8, x9, x10, x11⟩ := id X
  obtain ⟨bb1, bb2, bb3⟩ := lx_b m e
  obtain ⟨p1, p2, p3⟩ := P t o3
  obtain ⟨⟨q1, q2, q3⟩, q4⟩ := H.2.1 t o3 (Or.inl o4)
  unfold wpX_carryOn
  dsimp only
  rw [nI_clamp (show w < 2 ^ 31 by omega)]
  refine ⟨pk_in w 6 hw, nm_r o2 ⟨pk_in w 6 hw, pk_in t 8 (by omega), ?_⟩⟩
  rw [nI_clamp (show t < 2 ^ 31 by omega), x4, p1]
  refine pk_lt ps (ln t) (fun hlt => ?_) (fun hge => ?_)
  rotate_left
  · refine wk_fi (t := t) (by omega) hw (by omega) (by omega) o2 rfl (fun r a6' a7' c' a9' a10' g1 g2 g3 => ?_)
    obtain ⟨e1, f1, f2, f3⟩ := ki_f H hw h1 ht hq (by rw [x4, nI_clamp (by omega)]; exact hge) rfl g1 g2 g3
    exact ⟨fun z => kr_u (hp e1) (f1 z), fun z _ => kr_u (hp e1) (f2 z), fun _ z => kr_u (hp e1) (f3 z)⟩
  · obtain ⟨pl, hpl, p4⟩ := p3 ps hlt
    have hst : ∀ rv' : Nat → Int32, lx_st ln a3 a4 a5 t rv' (ps, rg, ma, sv, fl, rc t, cl, oc, ou) = lx_op (a3 (12 * t + ps)) (a5 (12 * t + ps)) (pl / 4) (pl % 4) rv' ps rg ma sv fl (rc t) cl oc ou := by
      intro rv'
      unfold lx_st
      dsimp only
      rw [if_pos hlt, p4, wa_lx hpl, wa_ly hpl]
    refine ⟨pk_in w 6 hw, nm_r (wa_12 t ps) ⟨pk_in (12 * t + ps) 96 (by omega), ?_⟩⟩
    rw [nI_clamp (show 12 * t + ps < 2 ^ 31 by omega), p4, (wa_x pl hpl).1, (wa_x pl hpl).2]
    refine nm_r (wa_4 w (pl / 4)) ⟨pk_in (12 * t + ps) 96 (by omega), nm_r (wa_4 w (pl % 4)) ⟨pk_in (12 * t + ps) 96 (by omega), nm_e ⟨pk_in w 6 hw, pk_in w 6 hw, nm_r (congrArg (upd a22 w) (nI_1 ps)) ?_⟩⟩⟩
    rw [nI_clamp (show 4 * w + pl / 4 < 2 ^ 31 by omega), nI_clamp (show 4 * w + pl % 4 < 2 ^ 31 by omega)]
    have hx : pl / 4 < 4 := by omega
    have hy : pl % 4 < 4 := by omega
    revert hst
    generalize hxe : pl / 4 = x at *
    generalize hye : pl % 4 = y at *
    generalize a3 (12 * t + ps) = o
    generalize hu : a5 (12 * t + ps) = u
    intro hst
    have cmp : (o ≤ 2 ∨ o = 5) → wX_carryOn_98 post (nI (12 * t + ps)) (nI (4 * w + x)) (nI (4 * w + y)) o fN fP fW (nI c) (nI k) fH fQ fR a1 a2 a3 a4 a5 a6 a7 a8 a9 a10 a11 a12 a13 a14 a15 a16 a17 a18 a19 a20 a21 (upd a22 w (nI (ps + 1))) a23 a24 a25 a26 := by
      intro ho
      unfold wX_carryOn_98
      rw [nI_clamp (show 12 * t + ps < 2 ^ 31 by omega), hu]
      refine ⟨pk_in (12 * t + ps) 96 (by omega), wk_cm (by omega) (by omega) ?_⟩
      rw [x5 x hx, x5 y hy]
      obtain ⟨e1, g⟩ := ki_lr (x := x) (v := lx_cm o u (rg x) (rg y)) H hw h1 ht p2 X hlt hx (by rw [hst]; unfold lx_op; rw [if_pos ho])
      exact kr_u (hp e1) g
    refine br_c (fun z => cmp (Or.inl z)) (fun n1 => br_c (fun z => cmp (Or.inr z)) (fun n2 => ?_))
    have nA : ¬ (o ≤ 2 ∨ o = 5) := by
      rintro (z | z)
      · exact n1 z
      · exact n2 z
    have rd : ∀ (Q : Int32 → St2 → Prop) (z : Int32), (∀ r s, post s → Q r s) → (∀ rv' : Nat → Int32, lx_op o u x y rv' ps rg ma sv fl (rc t) cl oc ou = lx_rd (z &&& 15).toNatClampNeg x rv' ps rg ma sv fl (rc t) cl oc ou) →
        wpX_readInto Q (fN, fP, fW, nI c, nI k, fH, fQ, fR, a1, a2, a3, a4, a5, a6, a7, a8, a9, a10, a11, a12, a13, a14, a15, a16, a17, a18, a19, a20, a21, upd a22 w (nI (ps + 1)), a23, a24, a25, a26) (nI w) (z &&& 15) (nI (4 * w + x)) := by
      intro Q z hQ hop
      obtain ⟨cc, hcc, ez⟩ := xb_and15 z
      have hop' : ∀ rv' : Nat → Int32, lx_st ln a3 a4 a5 t rv' (ps, rg, ma, sv, fl, rc t, cl, oc, ou) = lx_rd cc x rv' ps rg ma sv fl (rc t) cl oc ou := by
        intro rv'
        rw [hst, hop, ez, nI_clamp (by omega)]
      rw [ez]
      refine wk_ri (t := t) (rcn := rc t) hw (by omega) o2 hcc (by omega) q1 (by omega) (fun bt => hQ _ _ ?_) (fun bt f hf h9 => hQ _ _ ?_) (fun bt hF => hQ _ _ ?_) (fun bt f hF h9 => hQ _ _ ?_)
      · rw [x6] at bt
        obtain ⟨e1, g⟩ := ki_lr (x := x) (v := a25 (16 * w + cc)) H hw h1 ht p2 X hlt hx (by rw [hop']; unfold lx_rd; rw [if_pos bt, x7 cc hcc bt])
        exact kr_u (hp e1) g
      · have := nb_le a8 cc t
        obtain ⟨e1, g⟩ := ki_w (p' := nI (ps + 1)) H hw h1 ht x4 (by omega) (show f < t by omega) h9
        exact kr_u (hp e1) g
      · rw [x6] at bt
        obtain ⟨e1, g⟩ := ki_r (x := x) (cc := cc) (F := nb_n a8 cc t) (r := 0) (v := a1 cc) H hw h1 ht p2 hx hcc X hlt (fun rv' => by rw [hop']; unfold lx_rd; rw [if_neg bt]) rfl (fun _ => rfl) (fun f hf => absurd hf (by omega))
        exact kr_u (hp e1) g
      · rw [x6] at bt
        have := nb_le a8 cc t
        obtain ⟨r, r1, r2, r3⟩ := H.2.2.1 f (by omega) cc hcc (nb_bit hF)
        obtain ⟨e1, g⟩ := ki_r (x := x) (cc := cc) (F := nb_n a8 cc t) (r := r) (v := a6 (8 * cc + f)) H hw h1 ht p2 hx hcc X hlt (fun rv' => by rw [hop']; unfold lx_rd; rw [if_neg bt]) rfl (fun hf => absurd hf (by omega)) (fun f' hf => by
          have : f = f' := by omega
          subst this
          exact ⟨h9, r1, r2, rfl⟩)
        rw [r1]
        exact kr_u (hp e1) g
    have sto : ∀ (Q : St2 → Prop) (z : Int32), (∀ s, post s → Q s) → (∀ rv' : Nat → Int32, lx_op o u x y rv' ps rg ma sv fl (rc t) cl oc ou = (ps + 1, rg, ma ||| ((1 : Int32) <<< ((z &&& 15) &&& 31)), upd sv (z &&& 15).toNatClampNeg (rg x), fl, rc t, cl, oc, ou)) →
        wpX_storeFrom Q (fN, fP, fW, nI c, nI k, fH, fQ, fR, a1, a2, a3, a4, a5, a6, a7, a8, a9, a10, a11, a12, a13, a14, a15, a16, a17, a18, a19, a20, a21, upd a22 w (nI (ps + 1)), a23, a24, a25, a26) (nI w) (z &&& 15) (a23 (4 * w + x)) := by
      intro Q z hQ hop
      obtain ⟨cc, hcc, ez⟩ := xb_and15 z
      have hop' := fun rv' => (hst rv').trans (hop rv')
      rw [ez, nI_clamp (show cc < 2 ^ 31 by omega)] at hop'
      rw [ez, x5 x hx]
      refine wk_sf hw hcc (hQ _ ?_)
      obtain ⟨e1, g⟩ := ki_ls (cc := cc) (v := rg x) H hw h1 ht p2 X hlt hcc (hop' _)
      exact kr_u (hp e1) g
    refine br_c (fun n3 => ⟨pk_in (12 * t + ps) 96 (by omega), rd _ u (fun _ _ h => h) (fun rv' => by unfold lx_op; rw [if_neg nA, if_pos n3])⟩) (fun n3 => ?_)
    refine br_c (fun n9 => ⟨pk_in (4 * w + y) 24 (by omega), ?_⟩) (fun n9 => ?_)
    · rw [x5 y hy]
      exact rd _ (rg y) (fun _ _ h => h) (fun rv' => by unfold lx_op; rw [if_neg nA, if_neg n3, if_pos n9])
    refine br_c (fun n4 => ⟨pk_in (12 * t + ps) 96 (by omega), pk_in (4 * w + x) 24 (by omega), sto _ u (fun _ h => h) (fun rv' => by unfold lx_op; rw [if_neg nA, if_neg n3, if_neg n9, if_pos n4])⟩) (fun n4 => ?_)
    refine br_c (fun n10 => ⟨pk_in (4 * w + y) 24 (by omega), pk_in (4 * w + x) 24 (by omega), ?_⟩) (fun n10 => ?_)
    · rw [x5 y hy]
      exact sto _ (rg y) (fun _ h => h) (fun rv' => by unfold lx_op; rw [if_neg nA, if_neg n3, if_neg n9, if_neg n4, if_pos n10])
    refine br_c (fun n8 => ⟨pk_in t 8 (by omega), pk_in (4 * w + x) 24 (by omega), ?_⟩) (fun n8 => ⟨pk_in (12 * t + ps) 96 (by omega), ?_⟩)
    · rw [x10, wa_12, nI_clamp (show 12 * t + oc < 2 ^ 31 by omega), x5 x hx, nI_1]
      refine ⟨pk_in (12 * t + oc) 96 (by omega), nm_e ⟨pk_in t 8 (by omega), pk_in t 8 (by omega), nm_e ?_⟩⟩
      obtain ⟨e1, g⟩ := ki_lp (v := rg x) H hw h1 ht p2 X hlt (by rw [hst]; unfold lx_op; rw [if_neg nA, if_neg n3, if_neg n9, if_neg n4, if_neg n10, if_pos n8])
      exact kr_u (hp e1) g
    · have ex : a23 (4 * w + x) = rg x := x5 x hx
      have ey : a23 (4 * w + y) = rg y := x5 y hy
      refine wk_sr hw (by omega) (by omega) (fun z1 z2 => ?_) (fun z1 z2 => ?_) (fun z0 z1 z2 => ?_) (fun z0 z1 z2 => ?_) (fun z0 z1 z2 => ?_)
      · rw [ex, ey] at z2
        rw [uy_uu, pk_us, show nI (ps + 1) + 0 = nI (ps + 1) from nI_add (ps + 1) 0]
        obtain ⟨e1, g⟩ := ki_lj (ps' := ps + 1) (fl' := fl) (a26' := a26) H hw h1 ht p2 X hlt (by omega) (by omega) x8 (fun _ _ => rfl) (by rw [hst]; unfold lx_op; rw [if_neg nA, if_neg n3, if_neg n9, if_neg n4, if_neg n10, if_neg n8, if_pos z1, if_pos z2])
        exact kr_u (hp e1) g
      · rw [ex, ey] at z2
        rw [uy_uu, pk_us, nI_1]
        obtain ⟨e1, g⟩ := ki_lj (ps' := ps + 2) (fl' := fl) (a26' := a26) H hw h1 ht p2 X hlt (by omega) (by omega) x8 (fun _ _ => rfl) (by rw [hst]; unfold lx_op; rw [if_neg nA, if_neg n3, if_neg n9, if_neg n4, if_neg n10, if_neg n8, if_pos z1, if_neg z2])
        exact kr_u (hp e1) g
      · rw [ex] at z2
        rw [uy_uu]
        obtain ⟨e1, g⟩ := ki_lj (ps' := 12) (fl' := 1) (a26' := upd a26 w 1) H hw h1 ht p2 X hlt (by omega) (by omega) pk_us (fun _ h => pk_un h) (by rw [hst]; unfold lx_op; rw [if_neg nA, if_neg n3, if_neg n9, if_neg n4, if_neg n10, if_neg n8, if_neg z0, if_pos ⟨z1, z2⟩])
        exact kr_u (hp e1) g
      · rw [ex] at z1
        rw [uy_uu]
        obtain ⟨e1, g⟩ := ki_lj (ps' := 12) (fl' := fl) (a26' := a26) H hw h1 ht p2 X hlt (by omega) (by omega) x8 (fun _ _ => rfl) (by rw [hst]; unfold lx_op; rw [if_neg nA, if_neg n3, if_neg n9, if_neg n4, if_neg n10, if_neg n8, if_neg z0, if_neg z1, if_pos z2])
        exact kr_u (hp e1) g
      · rw [ex] at z1
        obtain ⟨e1, g⟩ := ki_lj (ps' := ps + 1) (fl' := fl) (a26' := a26) H hw h1 ht p2 X hlt (by omega) (by omega) x8 (fun _ _ => rfl) (by rw [hst]; unfold lx_op; rw [if_neg nA, if_neg n3, if_neg n9, if_neg n4, if_neg n10, if_neg n8, if_neg z0, if_neg z1, if_neg z2])
        exact kr_u (hp e1) g
end
end
section
section
variable {fN fP fW fC fK fH fQ fR : Int32} {a1 a2 a3 a4 a5 a6 a7 a8 a9 a10 a11 a12 a13 a14 a15 a16 a17 a18 a19 a20 a21 a22 a23 a24 a25 a26 : Nat → Int32} {n W q Φ c k : Nat} {ln : Nat → Nat} {w : Nat}
theorem wk_check {post : St2 → Prop} (H : (kr_a n W ln q Φ c k a1 a3 a4 a5 a6 a7 a8 a9 a10 a11 a12 a13 a14 a15 a16 a17 a18 a19 a20 a21 a22 a23 a24 a25 a26)) (hw : w < 6) (h2 : a19 w = 2) (hp : 1 ≤ Φ → (kr_h n W ln (q+1) (Φ-1) fN fP fW fH fQ fR a1 a2 a3 a4 a5 post)) : wpX_checkNow post (fN, fP, fW, nI c, nI k, fH, fQ, fR, a1, a2, a3, a4, a5, a6, a7, a8, a9, a10, a11, a12, a13, a14, a15, a16, a17, a18, a19, a20, a21, a22, a23, a24, a25, a26) (nI w) := by
  obtain ⟨tn, tk, ow, wf, pw, b, l, cf, rc, rl, rf, rt, rv, H⟩ := H
  obtain ⟨t, ht⟩ : ∃ t, tk w = t := ⟨_, rfl⟩
  have hn : n ≤ 4 := H.1.1
  have hc : c ≤ n := H.1.2.2.1
  have hk : k ≤ n := H.1.2.2.2.1
  obtain ⟨t1, t2, t3⟩ := H.1.2.2.2.2.2.1 w hw (by rw [h2]; decide)
  rw [ht] at t2 t3
  unfold wpX_checkNow
  dsimp only
  rw [nI_clamp (show w < 2 ^ 31 by omega)]
  refine ⟨pk_in w 6 hw, nm_r t2 ⟨pk_in w 6 hw, nm_e ⟨pk_in t 8 (by omega), ?_⟩⟩⟩
  rw [nI_clamp (show t < 2 ^ 31 by omega)]
  refine br_c (fun z1 => ⟨pk_in t 8 (by omega), pk_in w 6 hw, br_c (fun z2 => ?_) (fun z2 => ?_)⟩) (fun z1 => ?_)
  · obtain ⟨va, _⟩ := H.2.1 t t3 (Or.inr z1)
    refine wk_rh (by omega) va (fun hr => br_f (by decide) ?_) (fun hr => br_t rfl ?_)
    · obtain ⟨e1, g⟩ := ki_6 H hw h2 (fun _ _ => by rw [ht]; exact hr)
      exact kr_u (hp e1) g
    · refine wk_mr (by omega) (by omega) (fun y => ?_) (fun y => ?_)
      · refine pk_le k (t + 1) (fun y1 => ?_) (fun y1 => nm_r (nI_1 t) ?_) rfl (nI_1 t)
        · obtain ⟨e1, g⟩ := ki_7 (c' := c) (k' := k) H hw h2 ht z1 hr (by omega) (by omega) (by omega) (by omega)
          exact kr_u (hp e1) g
        · obtain ⟨e1, g⟩ := ki_7 (c' := c) (k' := t + 1) H hw h2 ht z1 hr (by omega) (by omega) (by omega) (by omega)
          exact kr_u (hp e1) g
      · refine pk_le k (t + 1) (fun y1 => ?_) (fun y1 => nm_r (nI_1 t) ?_) rfl (nI_1 t)
        · obtain ⟨e1, g⟩ := ki_7 (c' := t) (k' := k) H hw h2 ht z1 hr (by omega) (by omega) (by omega) (by omega)
          exact kr_u (hp e1) g
        · obtain ⟨e1, g⟩ := ki_7 (c' := t) (k' := t + 1) H hw h2 ht z1 hr (by omega) (by omega) (by omega) (by omega)
          exact kr_u (hp e1) g
  · obtain ⟨e1, g⟩ := ki_6 H hw h2 (fun _ y => absurd (by rw [ht] at y; exact y) z2)
    exact kr_u (hp e1) g
  · obtain ⟨e1, g⟩ := ki_6 H hw h2 (fun y => absurd (by rw [ht] at y; exact y) z1)
    exact kr_u (hp e1) g
theorem wk_take {post : St2 → Prop} (H : (kr_a n W ln q Φ c k a1 a3 a4 a5 a6 a7 a8 a9 a10 a11 a12 a13 a14 a15 a16 a17 a18 a19 a20 a21 a22 a23 a24 a25 a26)) (hw : w < W) (h0 : a19 w = 0) (hp : 1 ≤ Φ → (kr_h n W ln (q+1) (Φ-1) (nI n) fP fW fH fQ fR a1 a2 a3 a4 a5 post)) (hx : n ≤ c → n ≤ k → post (nI n, fP, fW, nI c, nI k, fH, fQ, fR, a1, a2, a3, a4, a5, a6, a7, a8, a9, a10, a11, a12, a13, a14, a15, a16, a17, a18, a19, a20, a21, a22, a23, a24, a25, a26)) : wpX_takeTask post (nI n, fP, fW, nI c, nI k, fH, fQ, fR, a1, a2, a3, a4, a5, a6, a7, a8, a9, a10, a11, a12, a13, a14, a15, a16, a17, a18, a19, a20, a21, a22, a23, a24, a25, a26) (nI w) := by
  have ⟨hn, hW, hc, hk⟩ : n ≤ 4 ∧ W ≤ 6 ∧ c ≤ n ∧ k ≤ n := by
    obtain ⟨tn, tk, ow, wf, pw, b, l, cf, rc, rl, rf, rt, rv, H⟩ := H
    exact ⟨H.1.1, H.1.2.1, H.1.2.2.1, H.1.2.2.2.1⟩
  have key : (c ≤ k ∨ n ≤ k) → wX_takeTask_56 post (nI w) (nI n) fP fW (nI c) (nI k) fH fQ fR a1 a2 a3 a4 a5 a6 a7 a8 a9 a10 a11 a12 a13 a14 a15 a16 a17 a18 a19 a20 a21 a22 a23 a24 a25 a26 := by
    intro hck
    unfold wX_takeTask_56
    refine pk_le n c (fun z => hx z (by omega)) (fun z => nm_r (nI_1 c) ⟨pk_in c 8 (by omega), ?_⟩)
    rw [nI_clamp (show c < 2 ^ 31 by omega)]
    refine br_c (fun y => wk_ca (by omega) (by omega) (fun a23' g1 g2 => ?_)) (fun y => ?_)
    · obtain ⟨e1, g⟩ := ki_3 H hw h0 z y g1 g2
      exact kr_u (hp e1) g
    · obtain ⟨e1, g⟩ := ki_4 H z y
      exact kr_u (hp e1) g
  unfold wpX_takeTask
  dsimp only
  refine pk_le c k (fun z => key (Or.inl z)) (fun z => pk_le n k (fun z1 => key (Or.inr z1)) (fun z1 => nm_r (nI_1 k) ⟨pk_in k 8 (by omega), ?_⟩))
  rw [nI_clamp (show k < 2 ^ 31 by omega)]
  refine br_c (fun y => wk_bc (by omega) (by omega) ?_) (fun y => ?_)
  · obtain ⟨e1, g⟩ := ki_1 H hw h0 z1 y
    exact kr_u (hp e1) g
  · obtain ⟨e1, g⟩ := ki_2 H z1 y
    exact kr_u (hp e1) g
/-- one step of a worker -/
theorem wk_step {post : St2 → Prop} (H : (kr_a n W ln q Φ c k a1 a3 a4 a5 a6 a7 a8 a9 a10 a11 a12 a13 a14 a15 a16 a17 a18 a19 a20 a21 a22 a23 a24 a25 a26)) (P : (kr_p n ln a2 a4)) (hq : q < 2 ^ 30) (hw : w < W) (hp : 1 ≤ Φ → (kr_h n W ln (q+1) (Φ-1) (nI n) fP fW fH fQ fR a1 a2 a3 a4 a5 post)) (hx : a19 w = 0 → n ≤ c → n ≤ k → post (nI n, fP, fW, nI c, nI k, fH, fQ, fR, a1, a2, a3, a4, a5, a6, a7, a8, a9, a10, a11, a12, a13, a14, a15, a16, a17, a18, a19, a20, a21, a22, a23, a24, a25, a26)) : wpX_step post (nI n, fP, fW, nI c, nI k, fH, fQ, fR, a1, a2, a3, a4, a5, a6, a7, a8, a9, a10, a11, a12, a13, a14, a15, a16, a17, a18, a19, a20, a21, a22, a23, a24, a25, a26) (nI w) := by
  have ⟨hn, hW, hs⟩ : n ≤ 4 ∧ W ≤ 6 ∧ (a19 w = 0 ∨ a19 w = 1 ∨ a19 w = 2) := by
    obtain ⟨tn, tk, ow, wf, pw, b, l, cf, rc, rl, rf, rt, rv, H⟩ := H
    have hW : W ≤ 6 := H.1.2.1
    exact ⟨H.1.1, hW, H.1.2.2.2.2.2.2.1.2 w (by omega)⟩
  unfold wpX_step
  dsimp only
  rw [nI_clamp (show w < 2 ^ 31 by omega)]
  refine ⟨pk_in w 6 (by omega), br_c (fun z => wk_take H hw z hp (hx z)) (fun z => ⟨pk_in w 6 (by omega), br_c (fun z1 => wk_check H (by omega) z1 hp) (fun z1 => wk_carry H P hq (by omega) ?_ hp)⟩)⟩
  rcases hs with y | y | y
  · exact absurd y z
  · exact y
  · exact absurd y z1
end
end
section
theorem wa_nI (x : Int32) : x = nI x.toBitVec.toNat := by
  apply Int32.toBitVec_inj.1
  show x.toBitVec = BitVec.ofNat 32 x.toBitVec.toNat
  simp
/-- fairness: every worker that has a task comes within d steps -/
def fa_r (W q d : Nat) (a19 : Nat → Int32) : Prop := ∀ a, a < W → a19 a ≠ 0 → ∃ x, q < x ∧ x ≤ q + d ∧ x % 4 = 0 ∧ x / 4 % W = a
theorem fa_24 {W : Nat} (h1 : 1 ≤ W) (h6 : W ≤ 6) (q : Nat) (a19 : Nat → Int32) : fa_r W q 24 a19 := by
  intro a ha _
  refine ⟨4 * (q / 4 + 1 + (a + W - (q / 4 + 1) % W) % W), ?_⟩
  have : W = 1 ∨ W = 2 ∨ W = 3 ∨ W = 4 ∨ W = 5 ∨ W = 6 := by omega
  rcases this with h | h | h | h | h | h <;> subst h <;> omega
theorem fa_n {W q d w : Nat} {a19 : Nat → Int32} (h : fa_r W q d a19) (h0 : a19 w = 0) (hw : (q + 1) % 4 = 0 → w = (q + 1) / 4 % W) : fa_r W (q + 1) (d - 1) a19 := by
  intro a ha h1
  obtain ⟨x, x1, x2, x3, x4⟩ := h a ha h1
  refine ⟨x, ?_, by omega, x3, x4⟩
  have : x ≠ q + 1 := by
    intro z
    subst z
    have := hw x3
    rw [x4] at this
    subst this
    exact h1 h0
  omega
section
variable {fN fP fW fC fK fH fQ fR : Int32} {a1 a2 a3 a4 a5 a6 a7 a8 a9 a10 a11 a12 a13 a14 a15 a16 a17 a18 a19 a20 a21 a22 a23 a24 a25 a26 : Nat → Int32} {n W q Φ c k : Nat} {ln : Nat → Nat} {w : Nat}
theorem wk_nw {post : Int32 → St2 → Prop} (h1 : 1 ≤ W) (h6 : W ≤ 6) (hq : q < 2 ^ 30) (hp : ∀ w h', w < W → ((q + 1) % 4 = 0 → w = (q + 1) / 4 % W) → post (nI w) (fN, fP, nI W, fC, fK, h', nI (q + 1), fR, a1, a2, a3, a4, a5, a6, a7, a8, a9, a10, a11, a12, a13, a14, a15, a16, a17, a18, a19, a20, a21, a22, a23, a24, a25, a26)) : wpX_nextWorker post (fN, fP, nI W, fC, fK, fH, nI q, fR, a1, a2, a3, a4, a5, a6, a7, a8, a9, a10, a11, a12, a13, a14, a15, a16, a17, a18, a19, a20, a21, a22, a23, a24, a25, a26) := by
  unfold wpX_nextWorker
  dsimp only
  have hW0 : ¬ nI W = 0 := nI_ne0 (by omega) (by omega)
  refine nm_r (nI_1 q) (fun h' _ => ⟨hW0, ?_⟩)
  have e1 : ∃ j, j < 65536 ∧ (h'.toUInt32 >>> ((16 : Int32).toUInt32 &&& Int32.toUInt32 31)).toInt32 = nI j := by
    have := pk_ushr h' 16 16 (by decide)
    refine ⟨_, ?_, wa_nI _⟩
    rw [this]
    have := h'.toBitVec.isLt
    omega
  obtain ⟨j, hj, ej⟩ := e1
  rw [ej, pk_rem (by omega) (by omega) (by omega)]
  refine nm_e ?_
  rw [pk_andN (show q + 1 < 2 ^ 32 by omega) 2 (by decide), pk_shrN (show q + 1 < 2 ^ 31 by omega) _ 2 (by decide), pk_rem (by omega) (by omega) (by omega)]
  refine pk_eq ((q + 1) % 2 ^ 2) 0 (fun z => ⟨hW0, hp _ h' (Nat.mod_lt _ (by omega)) (fun _ => rfl)⟩) (fun z => hp _ h' (Nat.mod_lt _ (by omega)) (fun y => absurd y z))
theorem wk_ad {post : Int32 → Prop} (hn : n ≤ 4) (hc : c ≤ n) (hk : k ≤ n) (h6 : W ≤ 6) (h1 : n ≤ c → n ≤ k → (∀ w, w < W → a19 w = 0) → post 1) (h0 : (c < n ∨ k < n ∨ ∃ w, w < W ∧ a19 w ≠ 0) → post 0) : wpX_isAllDone post (nI n, fP, nI W, nI c, nI k, fH, fQ, fR, a1, a2, a3, a4, a5, a6, a7, a8, a9, a10, a11, a12, a13, a14, a15, a16, a17, a18, a19, a20, a21, a22, a23, a24, a25, a26) := by
  unfold wpX_isAllDone
  dsimp only
  refine pk_lt c n (fun z => h0 (Or.inl z)) (fun z => pk_le n k (fun y => ⟨W + 1, ?_⟩) (fun y => h0 (Or.inr (Or.inl y))))
  have key : ∀ d i, i + d = W → (∀ v, v < i → a19 v = 0) → wX_isAllDone_26 post (nI n) fP (nI W) (nI c) (nI k) fH fQ fR a1 a2 a3 a4 a5 a6 a7 a8 a9 a10 a11 a12 a13 a14 a15 a16 a17 a18 a19 a20 a21 a22 a23 a24 a25 a26 (d + 1) (nI i) := by
    intro d
    induction d with
    | zero => exact fun i hi h => pk_le W i (fun _ => h1 z y (fun v hv => h v (by omega))) (fun u => absurd u (by omega))
    | succ d ih =>
      intro i hi h
      refine pk_le W i (fun u => absurd u (by omega)) (fun u => ⟨pk_in i 6 (by omega), ?_⟩)
      rw [nI_clamp (show i < 2 ^ 31 by omega)]
      refine br_c (fun v => nm_r (nI_1 i) (ih (i + 1) (by omega) (fun x hx => ?_))) (fun v => h0 (Or.inr (Or.inr ⟨i, u, v⟩)))
      by_cases e : x = i
      · subst e; exact v
      · exact h x (by omega)
  exact key W 0 (by omega) (fun v hv => absurd hv (by omega))
end
section
variable {n W : Nat} {ln : Nat → Nat} {fR : Int32} {a1 a2 a3 a4 a5 : Nat → Int32}
theorem wk_r34 {post : Int32 → St2 → Prop} (P : (kr_p n ln a2 a4)) (hW1 : 1 ≤ W)
    (hfin : ∀ (q Φ c k : Nat) (fH : Int32) (a6 a7 a8 a9 a10 a11 a12 a13 a14 a15 a16 a17 a18 a19 a20 a21 a22 a23 a24 a25 a26 : Nat → Int32), (kr_a n W ln q Φ c k a1 a3 a4 a5 a6 a7 a8 a9 a10 a11 a12 a13 a14 a15 a16 a17 a18 a19 a20 a21 a22 a23 a24 a25 a26) → n ≤ c → n ≤ k → (∀ w, w < W → a19 w = 0) → wX_run_63 post (nI n) 1 (nI W) (nI c) (nI k) fH (nI q) fR a1 a2 a3 a4 a5 a6 a7 a8 a9 a10 a11 a12 a13 a14 a15 a16 a17 a18 a19 a20 a21 a22 a23 a24 a25 a26) :
    ∀ (F Φ d j q c k : Nat) (fH : Int32) (a6 a7 a8 a9 a10 a11 a12 a13 a14 a15 a16 a17 a18 a19 a20 a21 a22 a23 a24 a25 a26 : Nat → Int32), 25 * Φ + d < F → j + 25 * Φ + d < 200000 → q + 25 * Φ + d < 2 ^ 29 → d ≤ 24 → (kr_a n W ln q Φ c k a1 a3 a4 a5 a6 a7 a8 a9 a10 a11 a12 a13 a14 a15 a16 a17 a18 a19 a20 a21 a22 a23 a24 a25 a26) → fa_r W q d a19 →
      wX_run_34 post F (nI j) (nI n) 1 (nI W) (nI c) (nI k) fH (nI q) fR a1 a2 a3 a4 a5 a6 a7 a8 a9 a10 a11 a12 a13 a14 a15 a16 a17 a18 a19 a20 a21 a22 a23 a24 a25 a26 := by
  intro F
  induction F with
  | zero => intro Φ d; intros; omega
  | succ F ih =>
    intro Φ d j q c k fH a6 a7 a8 a9 a10 a11 a12 a13 a14 a15 a16 a17 a18 a19 a20 a21 a22 a23 a24 a25 a26 g1 g2 g3 g4 H fa
    have ⟨hn, hW, hc, hk⟩ : n ≤ 4 ∧ W ≤ 6 ∧ c ≤ n ∧ k ≤ n := by
      obtain ⟨tn, tk, ow, wf, pw, b, l, cf, rc, rl, rf, rt, rv, H⟩ := H
      exact ⟨H.1.1, H.1.2.1, H.1.2.2.1, H.1.2.2.2.1⟩
    refine pk_le 200000 j (fun z => absurd z (by omega)) (fun _ => wk_ad hn hc hk hW (fun z1 z2 z3 => br_f (by decide) (hfin q Φ c k fH a6 a7 a8 a9 a10 a11 a12 a13 a14 a15 a16 a17 a18 a19 a20 a21 a22 a23 a24 a25 a26 H z1 z2 z3)) (fun nd => br_t rfl (wk_nw hW1 hW (by omega) (fun w h' hw hf => ?_))))
    refine wk_step (W := W) H P (by omega) hw ?_ ?_
    · intro hΦ c' k' b6 b7 b8 b9 b10 b11 b12 b13 b14 b15 b16 b17 b18 b19 b20 b21 b22 b23 b24 b25 b26 g
      exact nm_r (nI_1 j) (ih (Φ - 1) 24 (j + 1) (q + 1) c' k' h' b6 b7 b8 b9 b10 b11 b12 b13 b14 b15 b16 b17 b18 b19 b20 b21 b22 b23 b24 b25 b26 (by omega) (by omega) (by omega) (by omega) g (fa_24 hW1 hW _ _))
    · intro z0 z1 z2
      have d1 : 1 ≤ d := by
        rcases nd with y | y | ⟨v, y1, y2⟩
        · omega
        · omega
        · obtain ⟨x, x1, x2, _⟩ := fa v y1 y2
          omega
      exact nm_r (nI_1 j) (ih Φ (d - 1) (j + 1) (q + 1) c k h' a6 a7 a8 a9 a10 a11 a12 a13 a14 a15 a16 a17 a18 a19 a20 a21 a22 a23 a24 a25 a26 (by omega) (by omega) (by omega) (by omega) (ki_0 H) (fa_n fa z0 hf))
theorem wk_w34 {post : Int32 → St2 → Prop} {st C : Nat} (P : (kr_p n ln a2 a4)) (hW1 : 1 ≤ W) (hst : st < 2 ^ 31) (hC : C < 2 ^ 29)
    (hp : ∀ (q Φ d c k : Nat) (fH : Int32) (a6 a7 a8 a9 a10 a11 a12 a13 a14 a15 a16 a17 a18 a19 a20 a21 a22 a23 a24 a25 a26 : Nat → Int32), (kr_a n W ln q Φ c k a1 a3 a4 a5 a6 a7 a8 a9 a10 a11 a12 a13 a14 a15 a16 a17 a18 a19 a20 a21 a22 a23 a24 a25 a26) → fa_r W q d a19 → d ≤ 24 → q + 25 * Φ + d ≤ C → post 0 (nI n, 1, nI W, nI c, nI k, fH, nI q, fR, a1, a2, a3, a4, a5, a6, a7, a8, a9, a10, a11, a12, a13, a14, a15, a16, a17, a18, a19, a20, a21, a22, a23, a24, a25, a26)) :
    ∀ (F Φ d j q c k : Nat) (fH : Int32) (a6 a7 a8 a9 a10 a11 a12 a13 a14 a15 a16 a17 a18 a19 a20 a21 a22 a23 a24 a25 a26 : Nat → Int32), 25 * Φ + d < F → j < 2 ^ 30 → j + 25 * Φ + d < 2 ^ 30 → q + 25 * Φ + d ≤ C → d ≤ 24 → (kr_a n W ln q Φ c k a1 a3 a4 a5 a6 a7 a8 a9 a10 a11 a12 a13 a14 a15 a16 a17 a18 a19 a20 a21 a22 a23 a24 a25 a26) → fa_r W q d a19 →
      wX_work_34 post (nI st) F (nI j) (nI n) 1 (nI W) (nI c) (nI k) fH (nI q) fR a1 a2 a3 a4 a5 a6 a7 a8 a9 a10 a11 a12 a13 a14 a15 a16 a17 a18 a19 a20 a21 a22 a23 a24 a25 a26 := by
  intro F
  induction F with
  | zero => intro Φ d; intros; omega
  | succ F ih =>
    intro Φ d j q c k fH a6 a7 a8 a9 a10 a11 a12 a13 a14 a15 a16 a17 a18 a19 a20 a21 a22 a23 a24 a25 a26 g1 g2 g2' g3 g4 H fa
    have ⟨hn, hW, hc, hk⟩ : n ≤ 4 ∧ W ≤ 6 ∧ c ≤ n ∧ k ≤ n := by
      obtain ⟨tn, tk, ow, wf, pw, b, l, cf, rc, rl, rf, rt, rv, H⟩ := H
      exact ⟨H.1.1, H.1.2.1, H.1.2.2.1, H.1.2.2.2.1⟩
    have hpp := hp q Φ d c k fH a6 a7 a8 a9 a10 a11 a12 a13 a14 a15 a16 a17 a18 a19 a20 a21 a22 a23 a24 a25 a26 H fa g4 g3
    refine pk_le st j (fun _ => hpp) (fun _ => pk_le 2000 j (fun _ => hpp) (fun _ => wk_ad hn hc hk hW (fun z1 z2 z3 => br_f (by decide) hpp) (fun nd => br_t rfl (wk_nw hW1 hW (by omega) (fun w h' hw hf => ?_)))))
    refine wk_step (W := W) H P (by omega) hw ?_ ?_
    · intro hΦ c' k' b6 b7 b8 b9 b10 b11 b12 b13 b14 b15 b16 b17 b18 b19 b20 b21 b22 b23 b24 b25 b26 g
      exact nm_r (nI_1 j) (ih (Φ - 1) 24 (j + 1) (q + 1) c' k' h' b6 b7 b8 b9 b10 b11 b12 b13 b14 b15 b16 b17 b18 b19 b20 b21 b22 b23 b24 b25 b26 (by omega) (by omega) (by omega) (by omega) (by omega) g (fa_24 hW1 hW _ _))
    · intro z0 z1 z2
      have d1 : 1 ≤ d := by
        rcases nd with y | y | ⟨v, y1, y2⟩
        · omega
        · omega
        · obtain ⟨x, x1, x2, _⟩ := fa v y1 y2
          omega
      exact nm_r (nI_1 j) (ih Φ (d - 1) (j + 1) (q + 1) c k h' a6 a7 a8 a9 a10 a11 a12 a13 a14 a15 a16 a17 a18 a19 a20 a21 a22 a23 a24 a25 a26 (by omega) (by omega) (by omega) (by omega) (by omega) (ki_0 H) (fa_n fa z0 hf))
end
end
section
/-- what a transaction t would see of a cell -/
def fn_c (a1 a6 a8 : Nat → Int32) (t c : Nat) : Int32 :=
  match nb_n a8 c t with
  | 0 => a1 c
  | f + 1 => a6 (8 * c + f)
theorem fn_c0 {a1 a6 a8 : Nat → Int32} {t c : Nat} (h : nb_n a8 c t = 0) : fn_c a1 a6 a8 t c = a1 c := by
  unfold fn_c; rw [h]
theorem fn_c1 {a1 a6 a8 : Nat → Int32} {t c f : Nat} (h : nb_n a8 c t = f + 1) : fn_c a1 a6 a8 t c = a6 (8 * c + f) := by
  unfold fn_c; rw [h]
def fn_d (a16 : Nat → Int32) : Nat → Nat
  | 0 => 0
  | t + 1 => fn_d a16 t + (if a16 t = 0 then 1 else 0)
theorem fn_dl (a16 : Nat → Int32) : ∀ t, fn_d a16 t ≤ t
  | 0 => Nat.le_refl 0
  | t + 1 => by
    have := fn_dl a16 t
    show fn_d a16 t + _ ≤ t + 1
    split <;> omega
def fn_a (n : Nat) (ln : Nat → Nat) (a1 a3 a4 a5 a6 a7 a8 a9 a11 a12 a13 a14 a15 a16 a17 a18 : Nat → Int32) : Prop := ∃ rc rl rf rt rv, (∀ t, t < n → a9 t = 2 ∧ (rh_h a7 a8 a9 rc rl rf rt t) ∧ (vr_a t a12 a13 a14 a15 rc rl rf rt) ∧ (vx_d ln a3 a4 a5 a6 a8 a16 a17 a18 rc rl rv t) ∧ ∀ j, j < rc t → rv t j = fn_c a1 a6 a8 t (rl t j)) ∧ ∀ f, f < 8 → ∀ d, d < 8 → ¬ xb_bt (a11 f) d = true
section
variable {fN fP fW fC fK fH fQ fR : Int32} {a1 a2 a3 a4 a5 a6 a7 a8 a9 a10 a11 a12 a13 a14 a15 a16 a17 a18 a19 a20 a21 a22 a23 a24 a25 a26 : Nat → Int32} {n W q Φ c k : Nat} {ln : Nat → Nat} {w : Nat}
theorem fn_f (H : (kr_a n W ln q Φ c k a1 a3 a4 a5 a6 a7 a8 a9 a10 a11 a12 a13 a14 a15 a16 a17 a18 a19 a20 a21 a22 a23 a24 a25 a26)) (h1 : n ≤ c) (h2 : n ≤ k) (h3 : ∀ w, w < W → a19 w = 0) : (fn_a n ln a1 a3 a4 a5 a6 a7 a8 a9 a11 a12 a13 a14 a15 a16 a17 a18) := by
  obtain ⟨tn, tk, ow, wf, pw, b, l, cf, rc, rl, rf, rt, rv, ⟨hn, hW, hc, hk, htn, htk, hs4, hrd, ho1, ho2, hw1, hw2, hpc, hbu, hml, hme⟩, ⟨hr, hs, hx, he⟩⟩ := H
  have h19 : ∀ w, w < 6 → a19 w = 0 := by
    intro w hw
    by_cases z : a19 w = 0
    · exact z
    · exact h3 w (htk w hw z).1
  have h9 : ∀ t, t < n → a9 t = 2 := by
    intro t
    induction t using Nat.strongRecOn with
    | ind t ih =>
      intro ht
      rcases hs4.1 t ht with y | y | y | y
      · have := hrd t ht y; omega
      · obtain ⟨z1, z2, z3⟩ := ho1 t ht y
        rw [h19 _ z1] at z2
        exact absurd z2 (by decide)
      · exact y
      · obtain ⟨z1, z2, z3⟩ := hw1 t ht y
        exact absurd (ih (wf t) z1 (by omega)) z3
  have hrh : ∀ t, t < n → (rh_h a7 a8 a9 rc rl rf rt t) := by
    intro t ht
    rcases hpc t ht (h9 t ht) with y | y | ⟨y1, y2, _⟩
    · exact y
    · omega
    · rw [h19 _ y1] at y2
      exact absurd y2 (by decide)
  refine ⟨rc, rl, rf, rt, rv, fun t ht => ⟨h9 t ht, hrh t ht, (hr t ht (Or.inr (h9 t ht))).1, he t ht (h9 t ht), fun j hj => ?_⟩, fun f hf d hd z => ?_⟩
  · obtain ⟨v1, v2⟩ := (hr t ht (Or.inr (h9 t ht))).2 j hj
    obtain ⟨u1, u2⟩ := hrh t ht j hj
    cases hf : rf t j with
    | zero => rw [fn_c0 (by rw [u1, hf])]; exact v1 hf
    | succ f => rw [fn_c1 (by rw [u1, hf])]; exact ((v2 f hf).2.2 (u2 f hf).2).symm
  · obtain ⟨y1, y2, _⟩ := hw2 f hf d hd z
    rw [h9 d y1] at y2
    exact absurd y2 (by decide)
theorem wk_commit {post : St2 → Prop} (hn : n ≤ 8) (hp : ∀ a1', (∀ c, c < 16 → a1' c = fn_c a1 a6 a8 n c) → post (nI n, 2, fW, fC, fK, fH, fQ, fR, a1', a2, a3, a4, a5, a6, a7, a8, a9, a10, a11, a12, a13, a14, a15, a16, a17, a18, a19, a20, a21, a22, a23, a24, a25, a26)) : wpX_commit post (nI n, fP, fW, fC, fK, fH, fQ, fR, a1, a2, a3, a4, a5, a6, a7, a8, a9, a10, a11, a12, a13, a14, a15, a16, a17, a18, a19, a20, a21, a22, a23, a24, a25, a26) := by
  unfold wpX_commit
  dsimp only
  refine pk_loop (fun m i s => wX_commit_7 post (nI n) 2 fW fC fK fH fQ fR m (nI i) s a2 a3 a4 a5 a6 a7 a8 a9 a10 a11 a12 a13 a14 a15 a16 a17 a18 a19 a20 a21 a22 a23 a24 a25 a26) (fun i s => ∀ c, c < 16 → s c = if c < i then fn_c a1 a6 a8 n c else a1 c) 16 0 a1 (by omega) ?_ ?_ ?_
  · intro c _; rw [if_neg (by omega)]
  · intro m s h
    exact pk_le 16 16 (fun _ => hp s (fun c hc => by rw [h c hc, if_pos hc])) (fun z => absurd z (by omega))
  · intro m i s hi h hw'
    refine pk_le 16 i (fun z => absurd z (by omega)) (fun _ => wk_nb hi hn ?_)
    have hl := nb_le a8 i n
    cases hF : nb_n a8 i n with
    | zero =>
      refine br_t (by decide) (nm_r (nI_1 i) (hw' s (fun c hc => ?_)))
      rw [h c hc]
      by_cases z : c = i
      · subst z; rw [if_neg (by omega), if_pos (by omega), fn_c0 hF]
      · by_cases y : c < i
        · rw [if_pos y, if_pos (by omega)]
        · rw [if_neg y, if_neg (by omega)]
    | succ f =>
      refine br_f (nI_pos (by omega)) ?_
      unfold wpX_versionAt
      show vp_in ((8 : Int32) * nI i + nI f) 128 ∧ (vp_in (nI i) 16 ∧ ∀ a : Nat → Int32, a = upd s (nI i).toNatClampNeg (a6 ((8 : Int32) * nI i + nI f).toNatClampNeg) → _)
      rw [wa_8, nI_clamp (show 8 * i + f < 2 ^ 31 by omega), nI_clamp (show i < 2 ^ 31 by omega)]
      refine ⟨pk_in (8 * i + f) 128 (by omega), pk_in i 16 hi, nm_e (nm_r (nI_1 i) (hw' _ (fun c hc => ?_)))⟩
      by_cases z : c = i
      · subst z; rw [pk_us, if_pos (by omega), fn_c1 hF]
      · rw [pk_un z, h c hc]
        by_cases y : c < i
        · rw [if_pos y, if_pos (by omega)]
        · rw [if_neg y, if_neg (by omega)]
theorem wk_71 {post : Int32 → St2 → Prop} (hn : n ≤ 8) (hp : post (nI (fn_d a16 n)) (nI n, fP, fW, fC, fK, fH, fQ, fR, a1, a2, a3, a4, a5, a6, a7, a8, a9, a10, a11, a12, a13, a14, a15, a16, a17, a18, a19, a20, a21, a22, a23, a24, a25, a26)) : ∃ fu, wX_run_71 post (nI n) fP fW fC fK fH fQ fR a1 a2 a3 a4 a5 a6 a7 a8 a9 a10 a11 a12 a13 a14 a15 a16 a17 a18 a19 a20 a21 a22 a23 a24 a25 a26 fu 0 0 := by
  have key : ∀ d i, i + d = n → wX_run_71 post (nI n) fP fW fC fK fH fQ fR a1 a2 a3 a4 a5 a6 a7 a8 a9 a10 a11 a12 a13 a14 a15 a16 a17 a18 a19 a20 a21 a22 a23 a24 a25 a26 (d + 1) (nI (fn_d a16 i)) (nI i) := by
    intro d
    induction d with
    | zero =>
      intro i hi
      refine pk_le n i (fun _ => ?_) (fun z => absurd z (by omega))
      have : i = n := by omega
      subst this
      exact hp
    | succ d ih =>
      intro i hi
      refine pk_le n i (fun z => absurd z (by omega)) (fun _ => ⟨pk_in i 8 (by omega), ?_⟩)
      rw [nI_clamp (show i < 2 ^ 31 by omega)]
      have h := ih (i + 1) (by omega)
      have e : fn_d a16 (i + 1) = fn_d a16 i + (if a16 i = 0 then 1 else 0) := rfl
      refine br_c (fun z => nm_r (nI_1 _) (nm_r (nI_1 i) ?_)) (fun z => nm_r (show nI (fn_d a16 i) + 0 = nI (fn_d a16 i) from nI_add (fn_d a16 i) 0) (nm_r (nI_1 i) ?_))
      · rw [e, if_pos z] at h; exact h
      · rw [e, if_neg z] at h; exact h
  exact ⟨n + 1, key n 0 (by omega)⟩
theorem wk_start {post : St2 → Prop} (hp : ∀ a8' a9' a10' a11' a12' a16' a17' a19' : Nat → Int32, (∀ t, t < 8 → a8' t = 0 ∧ a9' t = 0 ∧ a10' t = 0 ∧ a11' t = 0 ∧ a12' t = 0 ∧ a16' t = 0 ∧ a17' t = 0) → (∀ w, w < 6 → a19' w = 0) →
    post (fN, 1, fW, 0, 0, fH, 0, fR, a1, a2, a3, a4, a5, a6, a7, a8', a9', a10', a11', a12', a13, a14, a15, a16', a17', a18, a19', a20, a21, a22, a23, a24, a25, a26)) : wpX_start post (fN, fP, fW, fC, fK, fH, fQ, fR, a1, a2, a3, a4, a5, a6, a7, a8, a9, a10, a11, a12, a13, a14, a15, a16, a17, a18, a19, a20, a21, a22, a23, a24, a25, a26) := by
  unfold wpX_start
  dsimp only
  refine pk_loop (fun m i (s : (Nat → Int32) × (Nat → Int32) × (Nat → Int32) × (Nat → Int32) × (Nat → Int32) × (Nat → Int32) × (Nat → Int32)) => wX_start_22 post fN 1 fW 0 0 fH 0 fR m (nI i) a1 a2 a3 a4 a5 a6 a7 s.1 s.2.1 s.2.2.1 s.2.2.2.1 s.2.2.2.2.1 a13 a14 a15 s.2.2.2.2.2.1 s.2.2.2.2.2.2 a18 a19 a20 a21 a22 a23 a24 a25 a26)
    (fun i s => ∀ t, t < i → s.1 t = 0 ∧ s.2.1 t = 0 ∧ s.2.2.1 t = 0 ∧ s.2.2.2.1 t = 0 ∧ s.2.2.2.2.1 t = 0 ∧ s.2.2.2.2.2.1 t = 0 ∧ s.2.2.2.2.2.2 t = 0) 8 0 (a8, a9, a10, a11, a12, a16, a17) (by omega) (fun t h => absurd h (by omega)) ?_ ?_
  · intro m s h
    obtain ⟨b8, b9, b10, b11, b12, b16, b17⟩ := s
    refine pk_le 8 8 (fun _ => ?_) (fun z => absurd z (by omega))
    refine pk_loop (fun m i s => wX_start_85 post fN 1 fW 0 0 fH 0 fR m (nI i) a1 a2 a3 a4 a5 a6 a7 b8 b9 b10 b11 b12 a13 a14 a15 b16 b17 a18 s a20 a21 a22 a23 a24 a25 a26) (fun i s => ∀ w, w < i → s w = 0) 6 0 a19 (by omega) (fun t h => absurd h (by omega)) ?_ ?_
    · intro m s h2
      exact pk_le 6 6 (fun _ => hp b8 b9 b10 b11 b12 b16 b17 s h h2) (fun z => absurd z (by omega))
    · intro m i s hi h2 hw'
      refine pk_le 6 i (fun z => absurd z (by omega)) (fun _ => ?_)
      rw [nI_clamp (show i < 2 ^ 31 by omega)]
      refine ⟨pk_in i 6 hi, nm_e (nm_r (nI_1 i) (hw' _ (fun w hw => ?_)))⟩
      by_cases z : w = i
      · subst z; exact pk_us
      · rw [pk_un z]; exact h2 w (by omega)
  · intro m i s hi h hw'
    refine pk_le 8 i (fun z => absurd z (by omega)) (fun _ => ?_)
    rw [nI_clamp (show i < 2 ^ 31 by omega)]
    refine ⟨pk_in i 8 hi, nm_e ⟨pk_in i 8 hi, nm_e ⟨pk_in i 8 hi, nm_e ⟨pk_in i 8 hi, nm_e ⟨pk_in i 8 hi, nm_e ⟨pk_in i 8 hi, nm_e ⟨pk_in i 8 hi, nm_e (nm_r (nI_1 i) (hw' (upd s.1 i 0, upd s.2.1 i 0, upd s.2.2.1 i 0, upd s.2.2.2.1 i 0, upd s.2.2.2.2.1 i 0, upd s.2.2.2.2.2.1 i 0, upd s.2.2.2.2.2.2 i 0) (fun t ht => ?_)))⟩⟩⟩⟩⟩⟩⟩
    dsimp only
    by_cases z : t = i
    · subst z; exact ⟨pk_us, pk_us, pk_us, pk_us, pk_us, pk_us, pk_us⟩
    · rw [pk_un z, pk_un z, pk_un z, pk_un z, pk_un z, pk_un z, pk_un z]
      exact h t (by omega)
theorem ki_st (hn : n ≤ 4) (hW : W ≤ 6) (h0 : ∀ t, t < 8 → a8 t = 0 ∧ a9 t = 0 ∧ a10 t = 0 ∧ a11 t = 0 ∧ a12 t = 0 ∧ a16 t = 0 ∧ a17 t = 0) (h19 : ∀ w, w < 6 → a19 w = 0) : (kr_a n W ln 0 3272 0 0 a1 a3 a4 a5 a6 a7 a8 a9 a10 a11 a12 a13 a14 a15 a16 a17 a18 a19 a20 a21 a22 a23 a24 a25 a26) := by
  refine ⟨fun _ => 0, fun _ => 0, fun _ => 0, fun _ => 0, fun _ => 0, fun t => 3 ^ t, fun _ => 15, fun _ => 0, fun _ => 0, fun _ _ => 0, fun _ _ => 0, fun _ _ => 0, fun _ _ => 0, ?_, ?_⟩
  · have h9 : ∀ t, t < 8 → a9 t = 0 := fun t ht => (h0 t ht).2.1
    refine ⟨hn, hW, by omega, by omega, ?_, ?_, ?_, ?_, ?_, ?_, ?_, ?_, ?_, ?_, ?_, ?_⟩
    · intro t ht; exact ⟨(h0 t (by omega)).2.2.1, Nat.le_refl _⟩
    · intro w hw z; exact absurd (h19 w hw) z
    · exact ⟨fun t ht => Or.inl (h9 t (by omega)), fun w hw => Or.inl (h19 w hw)⟩
    · intro t _ _; omega
    · intro t ht z; rw [h9 t (by omega)] at z; exact absurd z (by decide)
    · intro w hw z; rw [h19 w hw] at z; exact absurd z (by decide)
    · intro t ht z; rw [h9 t (by omega)] at z; exact absurd z (by decide)
    · intro f hf d hd z; rw [(h0 f hf).2.2.2.1, xb_0] at z; exact absurd z (by decide)
    · intro t ht z; rw [h9 t (by omega)] at z; exact absurd z (by decide)
    · intro t ht
      have e : 2 * sm_s (fun t => 3 ^ t) t + 1 ≤ 3 ^ t := by
        have : ∀ t, t < 4 → 2 * sm_s (fun t => 3 ^ t) t + 1 ≤ 3 ^ t := by decide
        exact this t (by omega)
      dsimp only
      refine ⟨by omega, fun _ => e, fun z => ?_, fun z => ?_⟩
      · rw [h9 t (by omega)] at z; exact absurd z (by decide)
      · rw [h9 t (by omega)] at z; exact absurd z (by decide)
    · refine ⟨fun _ _ _ => Nat.le_refl _, fun w hw z => ?_, fun w hw z => ?_⟩
      · rw [h19 w hw] at z; exact absurd z (by decide)
      · rw [h19 w hw] at z; exact absurd z (by decide)
    · show 80 * sm_s (fun t => 3 ^ t) 4 + sm_s (fun _ => 15) 4 + sm_s (fun _ => 0) 6 + 2 * (4 - 0) + (4 - 0) ≤ 3272
      decide
  · refine ⟨?_, ?_, ?_, ?_⟩
    · intro t ht z
      rw [(h0 t (by omega)).2.1] at z
      exact absurd z (by decide)
    · intro f hf c hc z
      rw [(h0 f (by omega)).1, xb_0] at z
      exact absurd z (by decide)
    · intro w hw z; rw [h19 w hw] at z; exact absurd z (by decide)
    · intro t ht z
      rw [(h0 t (by omega)).2.1] at z
      exact absurd z (by decide)
end
/-- what a run promises -/
def fn_p (n W : Nat) (ln : Nat → Nat) (fR : Int32) (a1 a2 a3 a4 a5 : Nat → Int32) (post : Int32 → St2 → Prop) : Prop :=
  ∀ (fC fK fH fQ : Int32) (a1' a6 a7 a8 a9 a10 a11 a12 a13 a14 a15 a16 a17 a18 a19 a20 a21 a22 a23 a24 a25 a26 : Nat → Int32), (fn_a n ln a1 a3 a4 a5 a6 a7 a8 a9 a11 a12 a13 a14 a15 a16 a17 a18) → (∀ c, c < 16 → a1' c = fn_c a1 a6 a8 n c) → post (nI (fn_d a16 n)) (nI n, 2, nI W, fC, fK, fH, fQ, fR, a1', a2, a3, a4, a5, a6, a7, a8, a9, a10, a11, a12, a13, a14, a15, a16, a17, a18, a19, a20, a21, a22, a23, a24, a25, a26)
section
variable {fN fP fW fC fK fH fQ fR : Int32} {a1 a2 a3 a4 a5 a6 a7 a8 a9 a10 a11 a12 a13 a14 a15 a16 a17 a18 a19 a20 a21 a22 a23 a24 a25 a26 : Nat → Int32} {n W q Φ c k d : Nat} {ln : Nat → Nat}
theorem wk_run1 {post : Int32 → St2 → Prop} {x : Int32} (P : (kr_p n ln a2 a4)) (hW1 : 1 ≤ W) (H : (kr_a n W ln q Φ c k a1 a3 a4 a5 a6 a7 a8 a9 a10 a11 a12 a13 a14 a15 a16 a17 a18 a19 a20 a21 a22 a23 a24 a25 a26)) (fa : fa_r W q d a19) (hd : d ≤ 24) (hq : q + 25 * Φ + d ≤ 100000) (hp : fn_p n W ln fR a1 a2 a3 a4 a5 post) :
    wX_run_22 post x (nI n) 1 (nI W) (nI c) (nI k) fH (nI q) fR a1 a2 a3 a4 a5 a6 a7 a8 a9 a10 a11 a12 a13 a14 a15 a16 a17 a18 a19 a20 a21 a22 a23 a24 a25 a26 := by
  unfold wX_run_22
  refine nm_e ⟨25 * Φ + d + 1, wk_r34 P hW1 ?_ (25 * Φ + d + 1) Φ d 0 q c k _ _ _ _ _ _ _ _ _ _ _ _ _ _ _ _ _ _ _ _ _ _ (by omega) (by omega) (by omega) hd H fa⟩
  intro q' Φ' c' k' h' b6 b7 b8 b9 b10 b11 b12 b13 b14 b15 b16 b17 b18 b19 b20 b21 b22 b23 b24 b25 b26 H' g1 g2 g3
  have hn : n ≤ 4 := by
    obtain ⟨tn, tk, ow, wf, pw, b, l, cf, rc, rl, rf, rt, rv, H⟩ := H
    exact H.1.1
  unfold wX_run_63
  refine wk_commit (by omega) (fun a1' h1 => wk_71 (by omega) ?_)
  exact hp _ _ _ _ a1' b6 b7 b8 b9 b10 b11 b12 b13 b14 b15 b16 b17 b18 b19 b20 b21 b22 b23 b24 b25 b26 (fn_f H' g1 g2 g3) h1
theorem wk_runA {post : Int32 → St2 → Prop} {x : Int32} (P : (kr_p n ln a2 a4)) (hW1 : 1 ≤ W) (H : (kr_a n W ln q Φ c k a1 a3 a4 a5 a6 a7 a8 a9 a10 a11 a12 a13 a14 a15 a16 a17 a18 a19 a20 a21 a22 a23 a24 a25 a26)) (fa : fa_r W q d a19) (hd : d ≤ 24) (hq : q + 25 * Φ + d ≤ 100000) (hp : fn_p n W ln fR a1 a2 a3 a4 a5 post) :
    wpX_run post (nI n, 1, nI W, nI c, nI k, fH, nI q, fR, a1, a2, a3, a4, a5, a6, a7, a8, a9, a10, a11, a12, a13, a14, a15, a16, a17, a18, a19, a20, a21, a22, a23, a24, a25, a26) x := by
  unfold wpX_run
  dsimp only
  exact br_f (by decide) (br_f (by decide) (wk_run1 P hW1 H fa hd hq hp))
theorem wk_runB {post : Int32 → St2 → Prop} {x : Int32} (P : (kr_p n ln a2 a4)) (hn : n ≤ 4) (hW1 : 1 ≤ W) (hW : W ≤ 6) (hp : fn_p n W ln fR a1 a2 a3 a4 a5 post) :
    wpX_run post (nI n, 0, nI W, fC, fK, fH, fQ, fR, a1, a2, a3, a4, a5, a6, a7, a8, a9, a10, a11, a12, a13, a14, a15, a16, a17, a18, a19, a20, a21, a22, a23, a24, a25, a26) x := by
  unfold wpX_run
  dsimp only
  refine br_f (by decide) (br_t rfl (wk_start (fun b8 b9 b10 b11 b12 b16 b17 b19 h0 h19 => ?_)))
  exact wk_run1 (q := 0) (Φ := 3272) (d := 24) (c := 0) (k := 0) P hW1 (ki_st hn hW h0 h19) (fa_24 hW1 hW _ _) (by omega) (by omega) hp
/-- what work promises -/
def fn_w (n W : Nat) (ln : Nat → Nat) (fR : Int32) (a1 a2 a3 a4 a5 : Nat → Int32) (post : Int32 → St2 → Prop) : Prop :=
  ∀ (q Φ d c k : Nat) (fH : Int32) (a6 a7 a8 a9 a10 a11 a12 a13 a14 a15 a16 a17 a18 a19 a20 a21 a22 a23 a24 a25 a26 : Nat → Int32), (kr_a n W ln q Φ c k a1 a3 a4 a5 a6 a7 a8 a9 a10 a11 a12 a13 a14 a15 a16 a17 a18 a19 a20 a21 a22 a23 a24 a25 a26) → fa_r W q d a19 → d ≤ 24 → q + 25 * Φ + d ≤ 100000 → post 0 (nI n, 1, nI W, nI c, nI k, fH, nI q, fR, a1, a2, a3, a4, a5, a6, a7, a8, a9, a10, a11, a12, a13, a14, a15, a16, a17, a18, a19, a20, a21, a22, a23, a24, a25, a26)
theorem wk_work1 {post : Int32 → St2 → Prop} {x : Int32} {st : Nat} (hst : st < 2 ^ 31) (P : (kr_p n ln a2 a4)) (hW1 : 1 ≤ W) (H : (kr_a n W ln q Φ c k a1 a3 a4 a5 a6 a7 a8 a9 a10 a11 a12 a13 a14 a15 a16 a17 a18 a19 a20 a21 a22 a23 a24 a25 a26)) (fa : fa_r W q d a19) (hd : d ≤ 24) (hq : q + 25 * Φ + d ≤ 100000) (hp : fn_w n W ln fR a1 a2 a3 a4 a5 post) :
    wX_work_22 post x (nI st) (nI n) 1 (nI W) (nI c) (nI k) fH (nI q) fR a1 a2 a3 a4 a5 a6 a7 a8 a9 a10 a11 a12 a13 a14 a15 a16 a17 a18 a19 a20 a21 a22 a23 a24 a25 a26 := by
  unfold wX_work_22
  exact nm_e ⟨25 * Φ + d + 1, wk_w34 (C := 100000) P hW1 hst (by omega) hp (25 * Φ + d + 1) Φ d 0 q c k _ _ _ _ _ _ _ _ _ _ _ _ _ _ _ _ _ _ _ _ _ _ (by omega) (by omega) (by omega) hq hd H fa⟩
theorem wk_workA {post : Int32 → St2 → Prop} {x : Int32} {st : Nat} (hst : st < 2 ^ 31) (P : (kr_p n ln a2 a4)) (hW1 : 1 ≤ W) (H : (kr_a n W ln q Φ c k a1 a3 a4 a5 a6 a7 a8 a9 a10 a11 a12 a13 a14 a15 a16 a17 a18 a19 a20 a21 a22 a23 a24 a25 a26)) (fa : fa_r W q d a19) (hd : d ≤ 24) (hq : q + 25 * Φ + d ≤ 100000) (hp : fn_w n W ln fR a1 a2 a3 a4 a5 post) :
    wpX_work post (nI n, 1, nI W, nI c, nI k, fH, nI q, fR, a1, a2, a3, a4, a5, a6, a7, a8, a9, a10, a11, a12, a13, a14, a15, a16, a17, a18, a19, a20, a21, a22, a23, a24, a25, a26) x (nI st) := by
  unfold wpX_work
  dsimp only
  exact br_f (by decide) (br_f (by decide) (wk_work1 hst P hW1 H fa hd hq hp))
theorem wk_workB {post : Int32 → St2 → Prop} {x : Int32} {st : Nat} (hst : st < 2 ^ 31) (P : (kr_p n ln a2 a4)) (hn : n ≤ 4) (hW1 : 1 ≤ W) (hW : W ≤ 6) (hp : fn_w n W ln fR a1 a2 a3 a4 a5 post) :
    wpX_work post (nI n, 0, nI W, fC, fK, fH, fQ, fR, a1, a2, a3, a4, a5, a6, a7, a8, a9, a10, a11, a12, a13, a14, a15, a16, a17, a18, a19, a20, a21, a22, a23, a24, a25, a26) x (nI st) := by
  unfold wpX_work
  dsimp only
  refine br_f (by decide) (br_t rfl (wk_start (fun b8 b9 b10 b11 b12 b16 b17 b19 h0 h19 => ?_)))
  exact wk_work1 (q := 0) (Φ := 3272) (d := 24) (c := 0) (k := 0) hst P hW1 (ki_st hn hW h0 h19) (fa_24 hW1 hW _ _) (by omega) (by omega) hp
end
end
section
/-! transactions by themselves: one lemma an operation -/
section
variable {rv : Nat → Int32} {x y ps : Nat} {u : Int32} {rg : Nat → Int32} {ma : Int32} {sv : Nat → Int32} {fl : Int32} {rc : Nat} {cl : Nat → Nat} {oc : Nat} {ou : Nat → Int32}
theorem lo_0 : lx_op 0 u x y rv ps rg ma sv fl rc cl oc ou = (ps + 1, upd rg x u, ma, sv, fl, rc, cl, oc, ou) := by
  unfold lx_op; rw [if_pos (by decide)]; rfl
theorem lo_1 : lx_op 1 u x y rv ps rg ma sv fl rc cl oc ou = (ps + 1, upd rg x (rg x + rg y), ma, sv, fl, rc, cl, oc, ou) := by
  unfold lx_op; rw [if_pos (by decide)]; rfl
theorem lo_3 {cc : Nat} (hc : cc < 16) (hu : u &&& 15 = nI cc) : lx_op 3 u x y rv ps rg ma sv fl rc cl oc ou = lx_rd cc x rv ps rg ma sv fl rc cl oc ou := by
  unfold lx_op; rw [if_neg (by decide), if_pos (by decide), hu, nI_clamp (by omega)]
theorem lo_9 {cc : Nat} (hc : cc < 16) (hu : rg y &&& 15 = nI cc) : lx_op 9 u x y rv ps rg ma sv fl rc cl oc ou = lx_rd cc x rv ps rg ma sv fl rc cl oc ou := by
  unfold lx_op; rw [if_neg (by decide), if_neg (by decide), if_pos (by decide), hu, nI_clamp (by omega)]
theorem lo_4 {cc : Nat} (hc : cc < 16) (hu : u &&& 15 = nI cc) : lx_op 4 u x y rv ps rg ma sv fl rc cl oc ou = (ps + 1, rg, ma ||| ((1 : Int32) <<< (nI cc &&& 31)), upd sv cc (rg x), fl, rc, cl, oc, ou) := by
  unfold lx_op; rw [if_neg (by decide), if_neg (by decide), if_neg (by decide), if_pos (by decide), hu, nI_clamp (by omega)]
theorem lo_10 {cc : Nat} (hc : cc < 16) (hu : rg y &&& 15 = nI cc) : lx_op 10 u x y rv ps rg ma sv fl rc cl oc ou = (ps + 1, rg, ma ||| ((1 : Int32) <<< (nI cc &&& 31)), upd sv cc (rg x), fl, rc, cl, oc, ou) := by
  unfold lx_op; rw [if_neg (by decide), if_neg (by decide), if_neg (by decide), if_neg (by decide), if_pos (by decide), hu, nI_clamp (by omega)]
theorem lo_8 : lx_op 8 u x y rv ps rg ma sv fl rc cl oc ou = (ps + 1, rg, ma, sv, fl, rc, cl, oc + 1, upd ou oc (rg x)) := by
  unfold lx_op; rw [if_neg (by decide), if_neg (by decide), if_neg (by decide), if_neg (by decide), if_neg (by decide), if_pos (by decide)]
theorem lo_6 : lx_op 6 u x y rv ps rg ma sv fl rc cl oc ou = (if rg y ≤ rg x then ps + 1 else ps + 2, rg, ma, sv, fl, rc, cl, oc, ou) := by
  unfold lx_op; rw [if_neg (by decide), if_neg (by decide), if_neg (by decide), if_neg (by decide), if_neg (by decide), if_neg (by decide), if_pos (by decide)]
theorem lo_7t (h : ¬ u ≤ rg x) : lx_op 7 u x y rv ps rg ma sv fl rc cl oc ou = (12, rg, ma, sv, 1, rc, cl, oc, ou) := by
  unfold lx_op; rw [if_neg (by decide), if_neg (by decide), if_neg (by decide), if_neg (by decide), if_neg (by decide), if_neg (by decide), if_neg (by decide), if_pos ⟨by decide, h⟩]
theorem lo_7f (h : u ≤ rg x) : lx_op 7 u x y rv ps rg ma sv fl rc cl oc ou = (ps + 1, rg, ma, sv, fl, rc, cl, oc, ou) := by
  unfold lx_op; rw [if_neg (by decide), if_neg (by decide), if_neg (by decide), if_neg (by decide), if_neg (by decide), if_neg (by decide), if_neg (by decide), if_neg (fun z => z.2 h), if_neg (by decide)]
theorem lo_11 : lx_op 11 u x y rv ps rg ma sv fl rc cl oc ou = (12, rg, ma, sv, fl, rc, cl, oc, ou) := by
  unfold lx_op; rw [if_neg (by decide), if_neg (by decide), if_neg (by decide), if_neg (by decide), if_neg (by decide), if_neg (by decide), if_neg (by decide), if_neg (fun z => absurd z.1 (by decide)), if_pos (by decide)]
theorem lo_rt {cc : Nat} (h : xb_bt ma cc = true) : lx_rd cc x rv ps rg ma sv fl rc cl oc ou = (ps + 1, upd rg x (sv cc), ma, sv, fl, rc, cl, oc, ou) := by
  unfold lx_rd; rw [if_pos h]
theorem lo_rf {cc : Nat} (h : ¬ xb_bt ma cc = true) : lx_rd cc x rv ps rg ma sv fl rc cl oc ou = (ps + 1, upd rg x (rv rc), ma, sv, fl, rc + 1, ux_up cl rc cc, oc, ou) := by
  unfold lx_rd; rw [if_neg h]
end
section
variable {ln : Nat → Nat} {a3 a4 a5 : Nat → Int32} {t : Nat} {rv : Nat → Int32}
theorem lo_s {m ps pl i : Nat} {o u : Int32} {L : LX_S} {rg : Nat → Int32} {ma : Int32} {sv : Nat → Int32} {fl : Int32} {rc : Nat} {cl : Nat → Nat} {oc : Nat} {ou : Nat → Int32}
    (h : lx_it ln a3 a4 a5 t rv m = (ps, rg, ma, sv, fl, rc, cl, oc, ou)) (hp : ps < ln t) (hi : 12 * t + ps = i) (ho : a3 i = o) (hl : pl < 16) (hpl : a4 i = nI pl) (hu : a5 i = u) (x y : Nat) (hx : pl / 4 = x) (hy : pl % 4 = y)
    (hL : lx_op o u x y rv ps rg ma sv fl rc cl oc ou = L) : lx_it ln a3 a4 a5 t rv (m + 1) = L := by
  show lx_st ln a3 a4 a5 t rv (lx_it ln a3 a4 a5 t rv m) = _
  rw [h]
  unfold lx_st
  dsimp only
  rw [if_pos hp, hi, ho, hpl, hu, wa_lx hl, wa_ly hl, hx, hy]
  exact hL
/-- a transaction is what its end says -/
theorem lo_e {m ps ps' : Nat} {rg rg' : Nat → Int32} {ma ma' : Int32} {sv sv' : Nat → Int32} {fl fl' : Int32} {rc rc' : Nat} {cl cl' : Nat → Nat} {oc oc' : Nat} {ou ou' : Nat → Int32}
    (h : lx_it ln a3 a4 a5 t rv m = (ps, rg, ma, sv, fl, rc, cl, oc, ou)) (hp : ln t ≤ ps) (hm : m ≤ 13) (h' : lx_it ln a3 a4 a5 t rv 13 = (ps', rg', ma', sv', fl', rc', cl', oc', ou')) :
    ma' = ma ∧ sv' = sv ∧ fl' = fl ∧ rc' = rc ∧ cl' = cl ∧ oc' = oc ∧ ou' = ou := by
  have e := lx_end h hp (13 - m)
  rw [show m + (13 - m) = 13 by omega, h'] at e
  simp only [Prod.mk.injEq] at e
  exact ⟨e.2.2.1, e.2.2.2.1, e.2.2.2.2.1, e.2.2.2.2.2.1, e.2.2.2.2.2.2.1, e.2.2.2.2.2.2.2.1, e.2.2.2.2.2.2.2.2⟩
/-- the transaction that loads a cell and puts it -/
theorem ev_3 {x : Nat} {cell : Nat} (hc : cell < 16) (hln : ln t = 2) (hx : x < 4) (o0 : a3 (12 * t) = 3) (p0 : a4 (12 * t) = nI (4 * x)) (u0 : a5 (12 * t) = nI cell) (o1 : a3 (12 * t + 1) = 8) (p1 : a4 (12 * t + 1) = nI (4 * x)) :
    ∃ rg, lx_it ln a3 a4 a5 t rv 2 = (2, rg, 0, fun _ => 0, 0, 1, ux_up (fun _ => 0) 0 cell, 1, upd (fun _ => 0) 0 (rv 0)) := by
  have hu : nI cell &&& 15 = nI cell := by
    rw [pk_andN (by omega) 4 (by decide), Nat.mod_eq_of_lt (by omega)]
  have h0 : lx_it ln a3 a4 a5 t rv 0 = (0, fun _ => 0, 0, fun _ => 0, 0, 0, fun _ => 0, 0, fun _ => 0) := rfl
  have h1 := lo_s h0 (by omega) rfl o0 (by omega) p0 u0 x 0 (by omega) (by omega) ((lo_3 hc hu).trans (lo_rf (by rw [xb_0]; decide)))
  have h2 := lo_s h1 (by omega) rfl o1 (by omega) p1 rfl x 0 (by omega) (by omega) lo_8
  rw [pk_us] at h2
  exact ⟨_, h2⟩
/-- the transaction that adds one to a cell -/
theorem ev_1 {cell : Nat} {v0 : Int32} (hc : cell < 16) (hv : v0 &&& 15 = nI cell) (hln : ln t = 6)
    (o0 : a3 (12 * t) = 0) (p0 : a4 (12 * t) = nI 0) (u0 : a5 (12 * t) = v0) (o1 : a3 (12 * t + 1) = 9) (p1 : a4 (12 * t + 1) = nI 4) (o2 : a3 (12 * t + 2) = 8) (p2 : a4 (12 * t + 2) = nI 4)
    (o3 : a3 (12 * t + 3) = 0) (p3 : a4 (12 * t + 3) = nI 8) (u3 : a5 (12 * t + 3) = 1) (o4 : a3 (12 * t + 4) = 1) (p4 : a4 (12 * t + 4) = nI 6) (o5 : a3 (12 * t + 5) = 4) (p5 : a4 (12 * t + 5) = nI 4) (u5 : a5 (12 * t + 5) = nI cell) :
    ∃ rg, lx_it ln a3 a4 a5 t rv 6 = (6, rg, (1 : Int32) <<< (nI cell &&& 31), upd (fun _ => 0) cell (rv 0 + 1), 0, 1, ux_up (fun _ => 0) 0 cell, 1, upd (fun _ => 0) 0 (rv 0)) := by
  have hu : nI cell &&& 15 = nI cell := by
    rw [pk_andN (by omega) 4 (by decide), Nat.mod_eq_of_lt (by omega)]
  have h0 : lx_it ln a3 a4 a5 t rv 0 = (0, fun _ => 0, 0, fun _ => 0, 0, 0, fun _ => 0, 0, fun _ => 0) := rfl
  have h1 := lo_s h0 (by omega) rfl o0 (by omega) p0 u0 0 0 rfl rfl lo_0
  have h2 := lo_s h1 (by omega) rfl o1 (by omega) p1 rfl 1 0 rfl rfl ((lo_9 hc hv).trans (lo_rf (by rw [xb_0]; decide)))
  have h3 := lo_s h2 (by omega) rfl o2 (by omega) p2 rfl 1 0 rfl rfl lo_8
  have h4 := lo_s h3 (by omega) rfl o3 (by omega) p3 u3 2 0 rfl rfl lo_0
  have h5 := lo_s h4 (by omega) rfl o4 (by omega) p4 rfl 1 2 rfl rfl lo_1
  have h6 := lo_s h5 (by omega) rfl o5 (by omega) p5 u5 1 0 rfl rfl (lo_4 hc hu)
  rw [xb_0or] at h6
  exact ⟨_, h6⟩
/-- the transaction that stores 3, reads it and may fail -/
theorem ev_2 {cell : Nat} {v6 : Int32} (hc : cell < 16) (hln : ln t = 7)
    (o0 : a3 (12 * t) = 3) (p0 : a4 (12 * t) = nI 0) (u0 : a5 (12 * t) = nI cell) (o1 : a3 (12 * t + 1) = 0) (p1 : a4 (12 * t + 1) = nI 15) (u1 : a5 (12 * t + 1) = 3) (o2 : a3 (12 * t + 2) = 4) (p2 : a4 (12 * t + 2) = nI 12) (u2 : a5 (12 * t + 2) = nI cell)
    (o3 : a3 (12 * t + 3) = 8) (p3 : a4 (12 * t + 3) = nI 0) (o4 : a3 (12 * t + 4) = 3) (p4 : a4 (12 * t + 4) = nI 8) (u4 : a5 (12 * t + 4) = nI cell) (o5 : a3 (12 * t + 5) = 8) (p5 : a4 (12 * t + 5) = nI 8) (o6 : a3 (12 * t + 6) = 7) (p6 : a4 (12 * t + 6) = nI 8) (u6 : a5 (12 * t + 6) = v6) :
    ∃ ps rg, 7 ≤ ps ∧ lx_it ln a3 a4 a5 t rv 7 = (ps, rg, (1 : Int32) <<< (nI cell &&& 31), upd (fun _ => 0) cell 3, if v6 ≤ 3 then 0 else 1, 1, ux_up (fun _ => 0) 0 cell, 2, upd (upd (fun _ => 0) 0 (rv 0)) 1 3) := by
  have hu : nI cell &&& 15 = nI cell := by
    rw [pk_andN (by omega) 4 (by decide), Nat.mod_eq_of_lt (by omega)]
  have h0 : lx_it ln a3 a4 a5 t rv 0 = (0, fun _ => 0, 0, fun _ => 0, 0, 0, fun _ => 0, 0, fun _ => 0) := rfl
  have h1 := lo_s h0 (by omega) rfl o0 (by omega) p0 u0 0 0 rfl rfl ((lo_3 hc hu).trans (lo_rf (by rw [xb_0]; decide)))
  have h2 := lo_s h1 (by omega) rfl o1 (by omega) p1 u1 3 3 rfl rfl lo_0
  have h3 := lo_s h2 (by omega) rfl o2 (by omega) p2 u2 3 0 rfl rfl (lo_4 hc hu)
  rw [xb_0or] at h3
  have h4 := lo_s h3 (by omega) rfl o3 (by omega) p3 rfl 0 0 rfl rfl lo_8
  have h5 := lo_s h4 (by omega) rfl o4 (by omega) p4 u4 2 0 rfl rfl ((lo_3 hc hu).trans (lo_rt (by rw [xb_1shl (by omega) (by omega)]; simp)))
  rw [pk_us] at h5
  have h6 := lo_s h5 (by omega) rfl o5 (by omega) p5 rfl 2 0 rfl rfl lo_8
  by_cases z : v6 ≤ 3
  · have h7 := lo_s h6 (by omega) rfl o6 (by omega) p6 u6 2 0 rfl rfl (lo_7f z)
    refine ⟨_, _, ?_, by rw [if_pos z]; exact h7⟩
    omega
  · have h7 := lo_s h6 (by omega) rfl o6 (by omega) p6 u6 2 0 rfl rfl (lo_7t z)
    refine ⟨_, _, ?_, by rw [if_neg z]; exact h7⟩
    omega
/-- the first transaction, when it stops -/
theorem ev_0s {a b : Nat} {low high : Int32} (ha : a < 4) (hb : b < 4) (hab : a ≠ b) (hln : ln 0 = 12) (hlh : high ≤ low)
    (o0 : a3 0 = 0) (p0 : a4 0 = nI (4 * a)) (u0 : a5 0 = low) (o1 : a3 1 = 0) (p1 : a4 1 = nI (4 * b)) (u1 : a5 1 = high) (o2 : a3 2 = 6) (p2 : a4 2 = nI (4 * a + b)) (o3 : a3 3 = 11) (p3 : a4 3 = nI 0) :
    ∃ rg, lx_it ln a3 a4 a5 0 rv 4 = (12, rg, 0, fun _ => 0, 0, 0, fun _ => 0, 0, fun _ => 0) := by
  have h0 : lx_it ln a3 a4 a5 0 rv 0 = (0, fun _ => 0, 0, fun _ => 0, 0, 0, fun _ => 0, 0, fun _ => 0) := rfl
  have h1 := lo_s h0 (by omega) rfl o0 (by omega) p0 u0 a 0 (by omega) (by omega) lo_0
  have h2 := lo_s h1 (by omega) rfl o1 (by omega) p1 u1 b 0 (by omega) (by omega) lo_0
  have h3 := lo_s h2 (by omega) rfl o2 (by omega) p2 rfl a b (by omega) (by omega) lo_6
  rw [pk_us, pk_un hab, pk_us, if_pos hlh] at h3
  have h4 := lo_s h3 (by omega) rfl o3 (by omega) p3 rfl 0 0 rfl rfl lo_11
  exact ⟨_, h4⟩
/-- the first transaction, when it goes on; E says whether its read is of its own store -/
theorem ev_0g {a b to hc : Nat} {low high : Int32} (ha : a < 4) (hb : b < 4) (hab : a ≠ b) (hln : ln 0 = 12) (hlh : ¬ high ≤ low) (hto : to < 16) (eto : low &&& 15 = nI to) (hhc : hc < 16) (ehc : high &&& 15 = nI hc)
    (o0 : a3 0 = 0) (p0 : a4 0 = nI (4 * a)) (u0 : a5 0 = low) (o1 : a3 1 = 0) (p1 : a4 1 = nI (4 * b)) (u1 : a5 1 = high) (o2 : a3 2 = 6) (p2 : a4 2 = nI (4 * a + b))
    (o4 : a3 4 = 8) (p4 : a4 4 = nI (4 * a)) (o5 : a3 5 = 10) (p5 : a4 5 = nI (4 * b + a)) (o6 : a3 6 = 9) (p6 : a4 6 = nI (5 * b)) (o7 : a3 7 = 8) (p7 : a4 7 = nI (4 * b)) (o8 : a3 8 = 9) (p8 : a4 8 = nI (4 * b + a))
    (o9 : a3 9 = 8) (p9 : a4 9 = nI (4 * b)) (o10 : a3 10 = 6) (p10 : a4 10 = nI (5 * a)) (o11 : a3 11 = 8) (p11 : a4 11 = nI (5 * a)) :
    ∃ rg rc cl, lx_it ln a3 a4 a5 0 rv 11 = (12, rg, (1 : Int32) <<< (nI to &&& 31), upd (fun _ => 0) to high, 0, rc, cl, 4, upd (upd (upd (upd (fun _ => 0) 0 low) 1 (if hc = to then high else rv 0)) 2 high) 3 low) ∧ (hc ≠ to → 0 < rc ∧ cl 0 = hc) := by
  have h0 : lx_it ln a3 a4 a5 0 rv 0 = (0, fun _ => 0, 0, fun _ => 0, 0, 0, fun _ => 0, 0, fun _ => 0) := rfl
  have h1 := lo_s h0 (by omega) rfl o0 (by omega) p0 u0 a 0 (by omega) (by omega) lo_0
  have h2 := lo_s h1 (by omega) rfl o1 (by omega) p1 u1 b 0 (by omega) (by omega) lo_0
  have h3 := lo_s h2 (by omega) rfl o2 (by omega) p2 rfl a b (by omega) (by omega) lo_6
  rw [pk_us, pk_un hab, pk_us, if_neg hlh] at h3
  have h4 := lo_s h3 (by omega) rfl o4 (by omega) p4 rfl a 0 (by omega) (by omega) lo_8
  rw [pk_un hab, pk_us] at h4
  have h5 := lo_s h4 (by omega) rfl o5 (by omega) p5 rfl b a (by omega) (by omega) (lo_10 (cc := to) hto (by rw [pk_un hab, pk_us]; exact eto))
  rw [pk_us, xb_0or] at h5
  have bit : ∀ i, i < 16 → (xb_bt ((1 : Int32) <<< (nI to &&& 31)) i = true ↔ i = to) := by
    intro i hi
    rw [xb_1shl (by omega) (by omega)]
    simp
  have tail : ∀ (v : Int32) (rc : Nat) (cl : Nat → Nat), lx_it ln a3 a4 a5 0 rv 6 = (7, upd (upd (upd (fun _ => 0) a low) b high) b v, (1 : Int32) <<< (nI to &&& 31), upd (fun _ => 0) to high, 0, rc, cl, 1, upd (fun _ => 0) 0 low) →
      ∃ rg, lx_it ln a3 a4 a5 0 rv 11 = (12, rg, (1 : Int32) <<< (nI to &&& 31), upd (fun _ => 0) to high, 0, rc, cl, 4, upd (upd (upd (upd (fun _ => 0) 0 low) 1 v) 2 high) 3 low) := by
    intro v rc cl h6
    rw [uy_uu] at h6
    have h7 := lo_s h6 (by omega) rfl o7 (by omega) p7 rfl b 0 (by omega) (by omega) lo_8
    rw [pk_us] at h7
    have h8 := lo_s h7 (by omega) rfl o8 (by omega) p8 rfl b a (by omega) (by omega) ((lo_9 (cc := to) hto (by rw [pk_un hab, pk_us]; exact eto)).trans (lo_rt ((bit to hto).mpr rfl)))
    rw [pk_us, uy_uu] at h8
    have h9 := lo_s h8 (by omega) rfl o9 (by omega) p9 rfl b 0 (by omega) (by omega) lo_8
    rw [pk_us] at h9
    have h10 := lo_s h9 (by omega) rfl o10 (by omega) p10 rfl a a (by omega) (by omega) lo_6
    rw [if_pos (Int32.le_refl _)] at h10
    have h11 := lo_s h10 (by omega) rfl o11 (by omega) p11 rfl a a (by omega) (by omega) lo_8
    rw [pk_un hab, pk_us] at h11
    exact ⟨_, h11⟩
  by_cases z : hc = to
  · have h6 := lo_s h5 (by omega) rfl o6 (by omega) p6 rfl b b (by omega) (by omega) ((lo_9 (cc := hc) hhc (by rw [pk_us]; exact ehc)).trans (lo_rt ((bit hc hhc).mpr z)))
    rw [z, pk_us] at h6
    obtain ⟨rg, h⟩ := tail _ _ _ h6
    exact ⟨rg, _, _, by rw [if_pos z]; exact h, fun y => absurd z y⟩
  · have h6 := lo_s h5 (by omega) rfl o6 (by omega) p6 rfl b b (by omega) (by omega) ((lo_9 (cc := hc) hhc (by rw [pk_us]; exact ehc)).trans (lo_rf (fun y => z ((bit hc hhc).mp y))))
    obtain ⟨rg, h⟩ := tail _ _ _ h6
    exact ⟨rg, _, _, by rw [if_neg z]; exact h, fun _ => ⟨by omega, ux_s _ _ _⟩⟩
end
end
section
section
variable {fN fP fW fC fK fH fQ fR : Int32} {a1 a2 a3 a4 a5 a6 a7 a8 a9 a10 a11 a12 a13 a14 a15 a16 a17 a18 a19 a20 a21 a22 a23 a24 a25 a26 : Nat → Int32}
theorem wk_begin {post : Int32 → St2 → Prop} {t : Nat} (ht : t < 8) (hp : post (nI t) (nI (t + 1), 0, fW, fC, fK, fH, fQ, fR, a1, upd a2 t 0, a3, a4, a5, a6, a7, a8, a9, a10, a11, a12, a13, a14, a15, a16, a17, a18, a19, a20, a21, a22, a23, a24, a25, a26)) : wpX_begin post (nI t, 0, fW, fC, fK, fH, fQ, fR, a1, a2, a3, a4, a5, a6, a7, a8, a9, a10, a11, a12, a13, a14, a15, a16, a17, a18, a19, a20, a21, a22, a23, a24, a25, a26) := by
  unfold wpX_begin
  dsimp only
  rw [nI_clamp (show t < 2 ^ 31 by omega)]
  refine br_t rfl (pk_lt t 8 (fun _ => ⟨pk_in t 8 ht, nm_e (nm_r (nI_1 t) ?_)⟩) (fun z => absurd z (by omega)))
  rw [nI_pred]
  exact hp
theorem wk_add {post : Int32 → St2 → Prop} {t len p0 p1 : Nat} {o p u : Int32} (ht : t < 8) (hl : len < 12) (h2 : a2 t = nI len) (eo : o = nI p0) (ep : p = nI p1) (h0 : p0 ≤ 11) (h1 : p1 ≤ 15)
    (hp : post (nI len) (nI (t + 1), 0, fW, fC, fK, fH, fQ, fR, a1, upd a2 t (nI (len + 1)), upd a3 (12 * t + len) (nI p0), upd a4 (12 * t + len) (nI p1), upd a5 (12 * t + len) u, a6, a7, a8, a9, a10, a11, a12, a13, a14, a15, a16, a17, a18, a19, a20, a21, a22, a23, a24, a25, a26)) :
    wpX_add post (nI (t + 1), 0, fW, fC, fK, fH, fQ, fR, a1, a2, a3, a4, a5, a6, a7, a8, a9, a10, a11, a12, a13, a14, a15, a16, a17, a18, a19, a20, a21, a22, a23, a24, a25, a26) o p u := by
  subst eo ep
  unfold wpX_add
  dsimp only
  refine br_t rfl (br_f (nI_pos (by omega)) (pk_lt 11 p0 (fun z => absurd z (by omega)) (fun _ => br_f (nI_pos (by omega)) (pk_le p1 15 (fun _ => br_f (nI_ne0 (by omega) (by omega)) (nm_r (nI_pred t) ?_)) (fun z => absurd z (by omega))))))
  rw [nI_clamp (show t < 2 ^ 31 by omega), h2]
  refine ⟨pk_in t 8 ht, pk_lt len 12 (fun _ => ⟨pk_in t 8 ht, nm_r (wa_12 t len) ?_⟩) (fun z => absurd z (by omega))⟩
  rw [nI_clamp (show 12 * t + len < 2 ^ 31 by omega), nI_1]
  refine ⟨pk_in (12 * t + len) 96 (by omega), nm_e ⟨pk_in (12 * t + len) 96 (by omega), nm_e ⟨pk_in (12 * t + len) 96 (by omega), nm_e ⟨pk_in t 8 ht, pk_in t 8 ht, nm_e ⟨pk_in t 8 ht, ?_⟩⟩⟩⟩⟩
  rw [pk_us, nI_pred]
  exact hp
theorem wk_undo0 {post : Int32 → St2 → Prop} {t : Nat} (ht : t + 1 < 8) (h2 : a2 (t + 1) = nI 0) (hp : post (a2 t) (nI (t + 1), 0, fW, fC, fK, fH, fQ, fR, a1, a2, a3, a4, a5, a6, a7, a8, a9, a10, a11, a12, a13, a14, a15, a16, a17, a18, a19, a20, a21, a22, a23, a24, a25, a26)) : wpX_undo post (nI (t + 2), 0, fW, fC, fK, fH, fQ, fR, a1, a2, a3, a4, a5, a6, a7, a8, a9, a10, a11, a12, a13, a14, a15, a16, a17, a18, a19, a20, a21, a22, a23, a24, a25, a26) := by
  unfold wpX_undo
  dsimp only
  have e : nI (t + 2) - 1 = nI (t + 1) := nI_pred (t + 1)
  refine br_t rfl (br_f (nI_ne0 (by omega) (by omega)) ?_)
  rw [e, nI_clamp (show t + 1 < 2 ^ 31 by omega), h2]
  refine ⟨pk_in (t + 1) 8 ht, br_t (by decide) (nm_e ?_)⟩
  unfold wX_undo_64
  refine br_f (nI_ne0 (by omega) (by omega)) ?_
  rw [nI_pred, nI_clamp (show t < 2 ^ 31 by omega)]
  exact ⟨pk_in t 8 (by omega), hp⟩
theorem wk_undo1 {post : Int32 → St2 → Prop} {t len : Nat} (ht : t < 8) (hl : len < 100) (h2 : a2 t = nI (len + 1)) (hp : post (nI len) (nI (t + 1), 0, fW, fC, fK, fH, fQ, fR, a1, upd a2 t (nI len), a3, a4, a5, a6, a7, a8, a9, a10, a11, a12, a13, a14, a15, a16, a17, a18, a19, a20, a21, a22, a23, a24, a25, a26)) : wpX_undo post (nI (t + 1), 0, fW, fC, fK, fH, fQ, fR, a1, a2, a3, a4, a5, a6, a7, a8, a9, a10, a11, a12, a13, a14, a15, a16, a17, a18, a19, a20, a21, a22, a23, a24, a25, a26) := by
  unfold wpX_undo
  dsimp only
  refine br_t rfl (br_f (nI_ne0 (by omega) (by omega)) ?_)
  rw [nI_pred, nI_clamp (show t < 2 ^ 31 by omega), h2, nI_pred]
  refine ⟨pk_in t 8 ht, br_f (nI_nle (by omega) (by omega)) ⟨pk_in t 8 ht, pk_in t 8 ht, nm_e ?_⟩⟩
  unfold wX_undo_64
  refine br_f (nI_ne0 (by omega) (by omega)) ?_
  rw [nI_pred, nI_clamp (show t < 2 ^ 31 by omega), pk_us]
  exact ⟨pk_in t 8 ht, hp⟩
theorem wk_isCell {post : Int32 → Prop} {cell : Nat} (hc : cell < 16) (hp : post 1) : wpX_isCell post () (nI cell) := by
  unfold wpX_isCell
  exact br_f (nI_pos (by omega)) (pk_le 16 cell (fun z => absurd z (by omega)) (fun _ => hp))
theorem wk_poke {post : Int32 → St2 → Prop} {cell : Nat} {v : Int32} (hc : cell < 16) (hP : fP ≠ 1) (hp : post 0 (fN, fP, fW, fC, fK, fH, fQ, fR, upd a1 cell v, a2, a3, a4, a5, a6, a7, a8, a9, a10, a11, a12, a13, a14, a15, a16, a17, a18, a19, a20, a21, a22, a23, a24, a25, a26)) : wpX_poke post (fN, fP, fW, fC, fK, fH, fQ, fR, a1, a2, a3, a4, a5, a6, a7, a8, a9, a10, a11, a12, a13, a14, a15, a16, a17, a18, a19, a20, a21, a22, a23, a24, a25, a26) (nI cell) v := by
  unfold wpX_poke
  dsimp only
  rw [nI_clamp (show cell < 2 ^ 31 by omega)]
  exact br_f hP (wk_isCell hc (br_f (by decide) ⟨pk_in cell 16 hc, nm_e hp⟩))
theorem wk_cell {post : Int32 → Prop} {cell : Nat} (hc : cell < 16) (hp : post (a1 cell)) : wpX_cell post (fN, fP, fW, fC, fK, fH, fQ, fR, a1, a2, a3, a4, a5, a6, a7, a8, a9, a10, a11, a12, a13, a14, a15, a16, a17, a18, a19, a20, a21, a22, a23, a24, a25, a26) (nI cell) := by
  unfold wpX_cell
  dsimp only
  rw [nI_clamp (show cell < 2 ^ 31 by omega)]
  exact wk_isCell hc (br_f (by decide) ⟨pk_in cell 16 hc, hp⟩)
theorem wk_secret {post : Int32 → Prop} {n t : Nat} (ht : t < n) (hn : n ≤ 8) (hp : post 0) : wpX_secret post (nI n, 2, fW, fC, fK, fH, fQ, fR, a1, a2, a3, a4, a5, a6, a7, a8, a9, a10, a11, a12, a13, a14, a15, a16, a17, a18, a19, a20, a21, a22, a23, a24, a25, a26) (nI t) := by
  unfold wpX_secret
  dsimp only
  exact br_f (nI_pos (by omega)) (pk_lt t n (fun _ => br_t rfl hp) (fun z => absurd z (by omega)))
theorem wk_result {post : Int32 → Prop} {n t : Nat} (ht : t < n) (hn : n ≤ 8) (hp : post (if a16 t = 0 then 1 else 0)) : wpX_result post (nI n, 2, fW, fC, fK, fH, fQ, fR, a1, a2, a3, a4, a5, a6, a7, a8, a9, a10, a11, a12, a13, a14, a15, a16, a17, a18, a19, a20, a21, a22, a23, a24, a25, a26) (nI t) := by
  unfold wpX_result
  dsimp only
  refine wk_secret ht hn (br_t (by decide) ⟨pk_in t 8 (by omega), ?_⟩)
  rw [nI_clamp (show t < 2 ^ 31 by omega)]
  refine br_c (fun z => ?_) (fun z => ?_)
  · rw [if_pos z] at hp; exact hp
  · rw [if_neg z] at hp; exact hp
theorem wk_outs {post : Int32 → Prop} {n t : Nat} (ht : t < n) (hn : n ≤ 8) (hp : post (if a16 t = 0 then a17 t else 0)) : wpX_outs post (nI n, 2, fW, fC, fK, fH, fQ, fR, a1, a2, a3, a4, a5, a6, a7, a8, a9, a10, a11, a12, a13, a14, a15, a16, a17, a18, a19, a20, a21, a22, a23, a24, a25, a26) (nI t) := by
  unfold wpX_outs
  dsimp only
  refine wk_secret ht hn (br_t (by decide) ⟨pk_in t 8 (by omega), ?_⟩)
  rw [nI_clamp (show t < 2 ^ 31 by omega)]
  refine br_c (fun z => ⟨pk_in t 8 (by omega), ?_⟩) (fun z => ?_)
  · rw [if_pos z] at hp; exact hp
  · rw [if_neg z] at hp; exact hp
theorem wk_stored {post : Int32 → Prop} {n t : Nat} (ht : t < n) (hn : n ≤ 8) (hp : post (a8 t)) : wpX_stored post (nI n, 2, fW, fC, fK, fH, fQ, fR, a1, a2, a3, a4, a5, a6, a7, a8, a9, a10, a11, a12, a13, a14, a15, a16, a17, a18, a19, a20, a21, a22, a23, a24, a25, a26) (nI t) := by
  unfold wpX_stored
  dsimp only
  refine wk_secret ht hn (br_t (by decide) ⟨pk_in t 8 (by omega), ?_⟩)
  rw [nI_clamp (show t < 2 ^ 31 by omega)]
  exact hp
theorem wk_out {post : Int32 → Prop} {n t j oc : Nat} (ht : t < n) (hn : n ≤ 8) (hj : j < 12) (ho : oc ≤ 12) (h17 : (if a16 t = 0 then a17 t else 0) = nI oc) (hp : post (if j < oc then a18 (12 * t + j) else 0)) : wpX_out post (nI n, 2, fW, fC, fK, fH, fQ, fR, a1, a2, a3, a4, a5, a6, a7, a8, a9, a10, a11, a12, a13, a14, a15, a16, a17, a18, a19, a20, a21, a22, a23, a24, a25, a26) (nI t) (nI j) := by
  unfold wpX_out
  dsimp only
  refine br_f (nI_pos (by omega)) (wk_outs ht hn ?_)
  rw [h17, wa_12, nI_clamp (show 12 * t + j < 2 ^ 31 by omega)]
  refine pk_le oc j (fun z => ?_) (fun z => ⟨pk_in (12 * t + j) 96 (by omega), ?_⟩)
  · rw [if_neg (by omega)] at hp; exact hp
  · rw [if_pos z] at hp; exact hp
def dg_s (a1 : Nat → Int32) : Nat → Int32
  | 0 => 0
  | c + 1 => dg_s a1 c + (nI c + 1) * a1 c
theorem dg_e {a b : Nat → Int32} : ∀ n, n ≤ 16 → (∀ c, c < 16 → a c = b c) → dg_s a n = dg_s b n
  | 0, _, _ => rfl
  | n + 1, h, g => by
    show dg_s a n + (nI n + 1) * a n = dg_s b n + (nI n + 1) * b n
    rw [dg_e n (by omega) g, g n (by omega)]
theorem wk_digest {post : Int32 → Prop} (hp : post (dg_s a1 16)) : wpX_digest post (fN, fP, fW, fC, fK, fH, fQ, fR, a1, a2, a3, a4, a5, a6, a7, a8, a9, a10, a11, a12, a13, a14, a15, a16, a17, a18, a19, a20, a21, a22, a23, a24, a25, a26) := by
  unfold wpX_digest
  dsimp only
  have key : ∀ d i, i + d = 16 → wX_digest_4 post fN fP fW fC fK fH fQ fR a1 a2 a3 a4 a5 a6 a7 a8 a9 a10 a11 a12 a13 a14 a15 a16 a17 a18 a19 a20 a21 a22 a23 a24 a25 a26 (d + 1) (dg_s a1 i) (nI i) := by
    intro d
    induction d with
    | zero =>
      intro i hi
      have : i = 16 := by omega
      subst this
      exact pk_le 16 16 (fun _ => hp) (fun z => absurd z (by omega))
    | succ d ih =>
      intro i hi
      refine pk_le 16 i (fun z => absurd z (by omega)) (fun _ => ⟨pk_in i 16 (by omega), ?_⟩)
      rw [nI_clamp (show i < 2 ^ 31 by omega)]
      exact nm_e (nm_r (nI_1 i) (ih (i + 1) (by omega)))
  exact ⟨17, key 16 0 rfl⟩
theorem wk_ex {post : St2 → Prop} (hp : post (fN, fP, fW, fC, fK, fH, fQ, fR, a1, a2, a3, a4, a5, a6, a7, a8, a9, a10, a11, a12, a13, a14, a15, a16, a17, a18, a19, a20, a21, a22, a23, a24, a25, a26)) : wpX_expect post (fN, fP, fW, fC, fK, fH, fQ, fR, a1, a2, a3, a4, a5, a6, a7, a8, a9, a10, a11, a12, a13, a14, a15, a16, a17, a18, a19, a20, a21, a22, a23, a24, a25, a26) 1 := by
  unfold wpX_expect
  dsimp only
  refine br_f (by decide) (nm_r (show fR + 0 = fR from ?_) hp)
  exact Int32.add_zero fR
/-- the last check: one transaction, whose reads hold, and nobody waits -/
theorem wk_faults {post : Int32 → St2 → Prop} {n : Nat} {rc : Nat → Nat} {rl rf rt : Nat → Nat → Nat} (h9 : a9 0 = 2) (hr : (rh_h a7 a8 a9 rc rl rf rt 0)) (va : (vr_a 0 a12 a13 a14 a15 rc rl rf rt)) (h11 : ∀ f, f < 8 → ¬ xb_bt (a11 f) 0 = true) (hp : post 0 (1, 2, fW, fC, fK, fH, fQ, 0, a1, a2, a3, a4, a5, a6, a7, a8, a9, a10, a11, a12, a13, a14, a15, a16, a17, a18, a19, a20, a21, a22, a23, a24, a25, a26)) : wpX_faults post (1, 2, fW, fC, fK, fH, fQ, fR, a1, a2, a3, a4, a5, a6, a7, a8, a9, a10, a11, a12, a13, a14, a15, a16, a17, a18, a19, a20, a21, a22, a23, a24, a25, a26) := by
  unfold wpX_faults
  dsimp only
  refine br_f (by decide) ⟨2, ?_⟩
  refine br_f (by decide) (br_f (by decide) ?_)
  unfold wpX_checkTransaction
  dsimp only
  have e0 : (0 : Int32).toNatClampNeg = 0 := sb_cl0
  refine br_f (by decide) ⟨pk_in 0 8 (by omega), ?_⟩
  rw [e0]
  refine br_t h9 (wk_rh (t := 0) (by omega) va (fun _ => br_f (by decide) ?_) (fun z => absurd hr z))
  unfold wX_checkTransaction_27 wX_checkTransaction_32
  refine wk_ex ⟨9, ?_⟩
  have key : ∀ Q d i, i + d = 8 → wX_checkTransaction_109 Q 0 0 0 1 2 fW fC fK fH fQ 0 a1 a2 a3 a4 a5 a6 a7 a8 a9 a10 a11 a12 a13 a14 a15 a16 a17 a18 a19 a20 a21 a22 a23 a24 a25 a26 → wX_checkTransaction_39 Q 0 (d + 1) 0 (nI i) 1 2 fW fC fK fH fQ 0 a1 a2 a3 a4 a5 a6 a7 a8 a9 a10 a11 a12 a13 a14 a15 a16 a17 a18 a19 a20 a21 a22 a23 a24 a25 a26 := by
    intro Q d
    induction d with
    | zero =>
      intro i hi h
      refine pk_le 8 i (fun _ => ⟨pk_in 0 8 (by omega), ?_⟩) (fun z => absurd z (by omega))
      rw [e0]
      exact br_f (by rw [h9]; decide) h
    | succ d ih =>
      intro i hi h
      refine pk_le 8 i (fun z => absurd z (by omega)) (fun _ => ⟨pk_in i 8 (by omega), ?_⟩)
      rw [nI_clamp (show i < 2 ^ 31 by omega)]
      refine br_f (fun z => h11 i (by omega) ((xb_test (a11 i) (show 0 < 32 by omega)).mp z)) (nm_r (nI_1 i) (ih (i + 1) (by omega) h))
  refine key _ 8 0 rfl ?_
  unfold wX_checkTransaction_109
  refine br_t rfl ?_
  unfold wX_checkTransaction_117
  refine wk_ex ⟨pk_in 0 8 (by omega), ?_⟩
  rw [e0]
  refine br_f (by rw [h9]; decide) ?_
  unfold wX_checkTransaction_147
  obtain ⟨v1, v2, v3⟩ := va
  refine wk_ex ⟨rc 0 + 1, ?_⟩
  have k2 : ∀ Q d i, i + d = rc 0 → Q (1, 2, fW, fC, fK, fH, fQ, 0, a1, a2, a3, a4, a5, a6, a7, a8, a9, a10, a11, a12, a13, a14, a15, a16, a17, a18, a19, a20, a21, a22, a23, a24, a25, a26) → wX_checkTransaction_152 Q 0 (d + 1) (nI i) 1 2 fW fC fK fH fQ 0 a1 a2 a3 a4 a5 a6 a7 a8 a9 a10 a11 a12 a13 a14 a15 a16 a17 a18 a19 a20 a21 a22 a23 a24 a25 a26 := by
    intro Q d
    induction d with
    | zero =>
      intro i hi h
      refine ⟨pk_in 0 8 (by omega), ?_⟩
      rw [e0, v1]
      exact pk_le (rc 0) i (fun _ => h) (fun z => absurd z (by omega))
    | succ d ih =>
      intro i hi h
      refine ⟨pk_in 0 8 (by omega), ?_⟩
      rw [e0, v1]
      refine pk_le (rc 0) i (fun z => absurd z (by omega)) (fun _ => ?_)
      have e12 : (12 : Int32) * 0 + nI i = nI i := by
        have := wa_12 0 i
        rw [Nat.mul_zero, Nat.zero_add] at this
        exact this
      rw [e12, nI_clamp (show i < 2 ^ 31 by omega)]
      refine ⟨pk_in i 96 (by omega), ?_⟩
      obtain ⟨r1, r2, r3, r4, r5⟩ := v3 i (by omega)
      have r3' : a14 i = -1 := by
        have : rf 0 i = 0 := by omega
        rw [this] at r3
        rw [Nat.mul_zero, Nat.zero_add] at r3
        exact r3
      rw [r3']
      refine br_f (by decide) ?_
      unfold wX_checkTransaction_183
      exact wk_ex (nm_r (nI_1 i) (ih (i + 1) (by omega) h))
  refine k2 _ (rc 0) 0 (by omega) ?_
  exact nm_r (show (0 : Int32) + 1 = 1 from rfl) (br_t (show (1 : Int32) ≤ 1 from (by decide)) hp)
end
end
section
section
variable {n : Nat} {ln : Nat → Nat} {a1 a3 a4 a5 a6 a7 a8 a9 a12 a13 a14 a15 a16 a17 a18 : Nat → Int32} {rc : Nat → Nat} {rl rf rt : Nat → Nat → Nat} {rv : Nat → Nat → Int32} {t : Nat}
theorem fn_cs (a1 a6 a8 : Nat → Int32) (t c : Nat) : fn_c a1 a6 a8 (t + 1) c = if xb_bt (a8 t) c = true then a6 (8 * c + t) else fn_c a1 a6 a8 t c := by
  by_cases z : xb_bt (a8 t) c = true
  · rw [if_pos z, fn_c1 (f := t)]
    rw [nb_s, if_pos z]
  · rw [if_neg z]
    unfold fn_c
    rw [nb_s, if_neg z]
theorem fn_cz (a1 a6 a8 : Nat → Int32) (c : Nat) : fn_c a1 a6 a8 0 c = a1 c := fn_c0 rfl
theorem sq_3 {x cell : Nat} (V : (vx_d ln a3 a4 a5 a6 a8 a16 a17 a18 rc rl rv t)) (HR : ∀ j, j < rc t → rv t j = fn_c a1 a6 a8 t (rl t j)) (hc : cell < 16) (hln : ln t = 2) (hx : x < 4) (o0 : a3 (12 * t) = 3) (p0 : a4 (12 * t) = nI (4 * x)) (u0 : a5 (12 * t) = nI cell) (o1 : a3 (12 * t + 1) = 8) (p1 : a4 (12 * t + 1) = nI (4 * x)) :
    a16 t = 0 ∧ a17 t = nI 1 ∧ a18 (12 * t) = fn_c a1 a6 a8 t cell ∧ a8 t = 0 := by
  obtain ⟨ps, rg, ma, sv, fl, cl, oc, ou, e, x1, x2, x3, x4, x5, x6, x7, x8⟩ := V
  obtain ⟨rg', h⟩ := ev_3 (ln := ln) (rv := rv t) hc hln hx o0 p0 u0 o1 p1
  obtain ⟨e1, e2, e3, e4, e5, e6, e7⟩ := lo_e h (by omega) (by omega) e
  have r0 : rv t 0 = fn_c a1 a6 a8 t cell := by
    rw [HR 0 (by omega), x2 0 (by omega), e5, ux_s]
  refine ⟨by rw [x3, e3], by rw [x4, e6], ?_, ?_⟩
  · have := x6 0 (by omega)
    rw [e7, pk_us, r0] at this
    exact this
  · rw [x7, e3, if_pos rfl, e1]
theorem sq_1 {cell : Nat} {v0 : Int32} (V : (vx_d ln a3 a4 a5 a6 a8 a16 a17 a18 rc rl rv t)) (HR : ∀ j, j < rc t → rv t j = fn_c a1 a6 a8 t (rl t j)) (hc : cell < 16) (hv : v0 &&& 15 = nI cell) (hln : ln t = 6)
    (o0 : a3 (12 * t) = 0) (p0 : a4 (12 * t) = nI 0) (u0 : a5 (12 * t) = v0) (o1 : a3 (12 * t + 1) = 9) (p1 : a4 (12 * t + 1) = nI 4) (o2 : a3 (12 * t + 2) = 8) (p2 : a4 (12 * t + 2) = nI 4)
    (o3 : a3 (12 * t + 3) = 0) (p3 : a4 (12 * t + 3) = nI 8) (u3 : a5 (12 * t + 3) = 1) (o4 : a3 (12 * t + 4) = 1) (p4 : a4 (12 * t + 4) = nI 6) (o5 : a3 (12 * t + 5) = 4) (p5 : a4 (12 * t + 5) = nI 4) (u5 : a5 (12 * t + 5) = nI cell) :
    a16 t = 0 ∧ a17 t = nI 1 ∧ a18 (12 * t) = fn_c a1 a6 a8 t cell ∧ a8 t = (1 : Int32) <<< (nI cell &&& 31) ∧ a6 (8 * cell + t) = fn_c a1 a6 a8 t cell + 1 := by
  obtain ⟨ps, rg, ma, sv, fl, cl, oc, ou, e, x1, x2, x3, x4, x5, x6, x7, x8⟩ := V
  obtain ⟨rg', h⟩ := ev_1 (ln := ln) (rv := rv t) hc hv hln o0 p0 u0 o1 p1 o2 p2 o3 p3 u3 o4 p4 o5 p5 u5
  obtain ⟨e1, e2, e3, e4, e5, e6, e7⟩ := lo_e h (by omega) (by omega) e
  have r0 : rv t 0 = fn_c a1 a6 a8 t cell := by
    rw [HR 0 (by omega), x2 0 (by omega), e5, ux_s]
  have m8 : a8 t = (1 : Int32) <<< (nI cell &&& 31) := by rw [x7, e3, if_pos rfl, e1]
  refine ⟨by rw [x3, e3], by rw [x4, e6], ?_, m8, ?_⟩
  · have := x6 0 (by omega)
    rw [e7, pk_us, r0] at this
    exact this
  · have := x8 cell hc (by rw [m8, xb_1shl (by omega) (by omega)]; simp)
    rw [e2, pk_us, r0] at this
    exact this
theorem sq_2 {cell : Nat} {v6 : Int32} (V : (vx_d ln a3 a4 a5 a6 a8 a16 a17 a18 rc rl rv t)) (HR : ∀ j, j < rc t → rv t j = fn_c a1 a6 a8 t (rl t j)) (hc : cell < 16) (hln : ln t = 7)
    (o0 : a3 (12 * t) = 3) (p0 : a4 (12 * t) = nI 0) (u0 : a5 (12 * t) = nI cell) (o1 : a3 (12 * t + 1) = 0) (p1 : a4 (12 * t + 1) = nI 15) (u1 : a5 (12 * t + 1) = 3) (o2 : a3 (12 * t + 2) = 4) (p2 : a4 (12 * t + 2) = nI 12) (u2 : a5 (12 * t + 2) = nI cell)
    (o3 : a3 (12 * t + 3) = 8) (p3 : a4 (12 * t + 3) = nI 0) (o4 : a3 (12 * t + 4) = 3) (p4 : a4 (12 * t + 4) = nI 8) (u4 : a5 (12 * t + 4) = nI cell) (o5 : a3 (12 * t + 5) = 8) (p5 : a4 (12 * t + 5) = nI 8) (o6 : a3 (12 * t + 6) = 7) (p6 : a4 (12 * t + 6) = nI 8) (u6 : a5 (12 * t + 6) = v6) :
    a16 t = (if v6 ≤ 3 then 0 else 1) ∧ a17 t = nI 2 ∧ a18 (12 * t) = fn_c a1 a6 a8 t cell ∧ a18 (12 * t + 1) = 3 ∧ a8 t = (if v6 ≤ 3 then (1 : Int32) <<< (nI cell &&& 31) else 0) ∧ (v6 ≤ 3 → a6 (8 * cell + t) = 3) := by
  obtain ⟨ps, rg, ma, sv, fl, cl, oc, ou, e, x1, x2, x3, x4, x5, x6, x7, x8⟩ := V
  obtain ⟨ps', rg', hps, h⟩ := ev_2 (ln := ln) (rv := rv t) hc hln o0 p0 u0 o1 p1 u1 o2 p2 u2 o3 p3 o4 p4 u4 o5 p5 o6 p6 u6
  obtain ⟨e1, e2, e3, e4, e5, e6, e7⟩ := lo_e h (by omega) (by omega) e
  have r0 : rv t 0 = fn_c a1 a6 a8 t cell := by
    rw [HR 0 (by omega), x2 0 (by omega), e5, ux_s]
  have m8 : a8 t = (if v6 ≤ 3 then (1 : Int32) <<< (nI cell &&& 31) else 0) := by
    rw [x7, e3, e1]
    by_cases z : v6 ≤ 3
    · rw [if_pos z, if_pos rfl, if_pos z]
    · rw [if_neg z, if_neg (by decide), if_neg z]
  refine ⟨by rw [x3, e3], by rw [x4, e6], ?_, ?_, m8, fun z => ?_⟩
  · have := x6 0 (by omega)
    rw [e7, pk_un (by omega), pk_us, r0] at this
    exact this
  · have := x6 1 (by omega)
    rw [e7, pk_us] at this
    exact this
  · have := x8 cell hc (by rw [m8, if_pos z, xb_1shl (by omega) (by omega)]; simp)
    rw [e2, pk_us] at this
    exact this
theorem sq_0s {a b : Nat} {low high : Int32} (V : (vx_d ln a3 a4 a5 a6 a8 a16 a17 a18 rc rl rv 0)) (ha : a < 4) (hb : b < 4) (hab : a ≠ b) (hln : ln 0 = 12) (hlh : high ≤ low)
    (o0 : a3 0 = 0) (p0 : a4 0 = nI (4 * a)) (u0 : a5 0 = low) (o1 : a3 1 = 0) (p1 : a4 1 = nI (4 * b)) (u1 : a5 1 = high) (o2 : a3 2 = 6) (p2 : a4 2 = nI (4 * a + b)) (o3 : a3 3 = 11) (p3 : a4 3 = nI 0) :
    a16 0 = 0 ∧ a17 0 = nI 0 ∧ a8 0 = 0 := by
  obtain ⟨ps, rg, ma, sv, fl, cl, oc, ou, e, x1, x2, x3, x4, x5, x6, x7, x8⟩ := V
  obtain ⟨rg', h⟩ := ev_0s (ln := ln) (rv := rv 0) ha hb hab hln hlh o0 p0 u0 o1 p1 u1 o2 p2 o3 p3
  obtain ⟨e1, e2, e3, e4, e5, e6, e7⟩ := lo_e h (by omega) (by omega) e
  exact ⟨by rw [x3, e3], by rw [x4, e6], by rw [x7, e3, if_pos rfl, e1]⟩
theorem sq_0g {a b to hc : Nat} {low high : Int32} (V : (vx_d ln a3 a4 a5 a6 a8 a16 a17 a18 rc rl rv 0)) (HR : ∀ j, j < rc 0 → rv 0 j = fn_c a1 a6 a8 0 (rl 0 j)) (ha : a < 4) (hb : b < 4) (hab : a ≠ b) (hln : ln 0 = 12) (hlh : ¬ high ≤ low) (hto : to < 16) (eto : low &&& 15 = nI to) (hhc : hc < 16) (ehc : high &&& 15 = nI hc)
    (o0 : a3 0 = 0) (p0 : a4 0 = nI (4 * a)) (u0 : a5 0 = low) (o1 : a3 1 = 0) (p1 : a4 1 = nI (4 * b)) (u1 : a5 1 = high) (o2 : a3 2 = 6) (p2 : a4 2 = nI (4 * a + b))
    (o4 : a3 4 = 8) (p4 : a4 4 = nI (4 * a)) (o5 : a3 5 = 10) (p5 : a4 5 = nI (4 * b + a)) (o6 : a3 6 = 9) (p6 : a4 6 = nI (5 * b)) (o7 : a3 7 = 8) (p7 : a4 7 = nI (4 * b)) (o8 : a3 8 = 9) (p8 : a4 8 = nI (4 * b + a))
    (o9 : a3 9 = 8) (p9 : a4 9 = nI (4 * b)) (o10 : a3 10 = 6) (p10 : a4 10 = nI (5 * a)) (o11 : a3 11 = 8) (p11 : a4 11 = nI (5 * a)) :
    a16 0 = 0 ∧ a17 0 = nI 4 ∧ a8 0 = (1 : Int32) <<< (nI to &&& 31) ∧ a18 0 = low ∧ a18 1 = (if hc = to then high else a1 hc) ∧ a18 2 = high ∧ a18 3 = low ∧ a6 (8 * to + 0) = high := by
  obtain ⟨ps, rg, ma, sv, fl, cl, oc, ou, e, x1, x2, x3, x4, x5, x6, x7, x8⟩ := V
  obtain ⟨rg', rc', cl', h, hk⟩ := ev_0g (ln := ln) (rv := rv 0) ha hb hab hln hlh hto eto hhc ehc o0 p0 u0 o1 p1 u1 o2 p2 o4 p4 o5 p5 o6 p6 o7 p7 o8 p8 o9 p9 o10 p10 o11 p11
  obtain ⟨e1, e2, e3, e4, e5, e6, e7⟩ := lo_e h (by omega) (by omega) e
  have m8 : a8 0 = (1 : Int32) <<< (nI to &&& 31) := by rw [x7, e3, if_pos rfl, e1]
  have q0 := x6 0 (by omega)
  have q1 := x6 1 (by omega)
  have q2 := x6 2 (by omega)
  have q3 := x6 3 (by omega)
  rw [e7] at q0 q1 q2 q3
  refine ⟨by rw [x3, e3], by rw [x4, e6], m8, q0, ?_, q2, q3, ?_⟩
  · have q1' : a18 1 = (if hc = to then high else rv 0 0) := q1
    rw [q1']
    by_cases z : hc = to
    · rw [if_pos z, if_pos z]
    · obtain ⟨k1, k2⟩ := hk z
      rw [if_neg z, if_neg z, HR 0 (by omega), x2 0 (by omega), e5, k2, fn_cz]
  · have := x8 to hto (by rw [m8, xb_1shl (by omega) (by omega)]; simp)
    rw [e2, pk_us] at this
    exact this
end
end
section
section
variable {fN fP fW fC fK fH fQ fR : Int32} {a1 a2 a3 a4 a5 a6 a7 a8 a9 a10 a11 a12 a13 a14 a15 a16 a17 a18 a19 a20 a21 a22 a23 a24 a25 a26 : Nat → Int32} {post : Int32 → St0 → Prop} {mc ms kc ks W cell : Nat} {x0 x2 x16 : Int32}
/-- the second block, and the end of the law -/
theorem lw_957 (hc : cell < 16) (hW1 : 1 ≤ W) (hW : W ≤ 6) (h16 : a1 cell = x16) (hp : post 1 ()) : wL_lawOf_957 post mc ms x0 x2 (nI cell) x16 kc ks (nI 4) 2 (nI W) fC fK fH fQ fR a1 a2 a3 a4 a5 a6 a7 a8 a9 a10 a11 a12 a13 a14 a15 a16 a17 a18 a19 a20 a21 a22 a23 a24 a25 a26 := by
  unfold wL_lawOf_957
  refine wk_digest ?_
  unfold wpX_next
  dsimp only
  refine br_f (by decide) (br_t rfl (wk_digest (br_t rfl ?_)))
  refine wk_begin (t := 0) (by omega) (br_t rfl ?_)
  dsimp only
  refine wk_add (t := 0) (len := 0) (p0 := 3) (p1 := 0) (by omega) (by omega) rfl rfl rfl (by omega) (by omega) (br_t rfl ?_)
  dsimp only
  refine wk_add (t := 0) (len := 1) (p0 := 8) (p1 := 0) (by omega) (by omega) rfl rfl rfl (by omega) (by omega) (br_t rfl ?_)
  dsimp only
  refine wk_begin (t := 1) (by omega) (br_t rfl ?_)
  dsimp only
  refine wk_undo0 (t := 0) (by omega) rfl (br_t rfl ?_)
  dsimp only
  unfold wpX_transactions
  dsimp only
  refine br_t rfl ?_
  refine wk_undo1 (t := 0) (len := 1) (by omega) (by omega) rfl (br_t rfl ?_)
  dsimp only
  refine wk_add (t := 0) (len := 1) (p0 := 8) (p1 := 0) (by omega) (by omega) rfl rfl rfl (by omega) (by omega) (br_t rfl ?_)
  dsimp only
  refine wk_runB (n := 1) (W := W) (ln := fun _ => 2) ?_ (by omega) hW1 hW ?_
  · intro t ht
    have : t = 0 := by omega
    subst this
    refine ⟨rfl, by decide, fun p hp' => ?_⟩
    have hp2 : p < 2 := hp'
    have : p = 0 ∨ p = 1 := by omega
    rcases this with z | z <;> subst z <;> exact ⟨0, by omega, rfl⟩
  · intro fC fK fH fQ b1 b6 b7 b8 b9 b10 b11 b12 b13 b14 b15 b16 b17 b18 b19 b20 b21 b22 b23 b24 b25 b26 F h1
    obtain ⟨rc, rl, rf, rt, rv, F1, F2⟩ := F
    obtain ⟨f1, f2, f3, f4, f5⟩ := F1 0 (by omega)
    obtain ⟨s1, s2, s3, s4⟩ := sq_3 (t := 0) (x := 0) (cell := cell) f4 f5 hc rfl (by omega) rfl rfl rfl rfl rfl
    rw [fn_cz] at s3
    have e1 : fn_d b16 1 = 1 := by
      show 0 + (if b16 0 = 0 then 1 else 0) = 1
      rw [if_pos s1]
    have hb1 : ∀ c, c < 16 → b1 c = a1 c := by
      intro c hc'
      rw [h1 c hc', fn_cs, s4, xb_0, if_neg (by decide), fn_cz]
    have e17 : (if b16 0 = 0 then b17 0 else 0) = nI 1 := by rw [if_pos s1]; exact s2
    have e18 : (if 0 < 1 then b18 (12 * 0 + 0) else 0) = x16 := by
      rw [if_pos (by omega)]
      exact s3.trans h16
    rw [e1]
    refine br_t rfl (wk_out (n := 1) (t := 0) (j := 0) (oc := 1) (by omega) (by omega) (by omega) (by omega) e17 (br_t e18 (wk_digest (br_t (dg_e 16 (by omega) hb1) ?_))))
    refine wk_poke hc (show (2 : Int32) ≠ 1 from (by decide)) (br_t rfl (wk_cell hc (br_t pk_us ?_)))
    refine wk_out (n := 1) (t := 0) (j := 0) (oc := 1) (by omega) (by omega) (by omega) (by omega) e17 (br_t e18 ?_)
    exact wk_faults (n := 0) (rc := rc) (rl := rl) (rf := rf) (rt := rt) f1 f2 f3 (fun f hf => F2 f hf 0 (by omega)) (br_t rfl hp)
end
end
section
section
variable {fN fP fW fC fK fH fQ fR : Int32} {a1 a2 a3 a4 a5 a6 a7 a8 a9 a10 a11 a12 a13 a14 a15 a16 a17 a18 a19 a20 a21 a22 a23 a24 a25 a26 : Nat → Int32} {post : Int32 → St0 → Prop} {mc ms kc ks W cell to hh : Nat} {x0 x2 x3 low high : Int32} {x10 x11 old aft : Int32}
/-- the law's checks of the transactions 1, 2, 3 -/
theorem lw_727 {x12 : Int32} (hc : cell < 16) (hto : to < 16) (h10 : x10 = 0 ∨ x10 = 1)
    (hR : wL_lawOf_957 post mc ms x0 x2 (nI cell) aft kc ks (nI 4) 2 (nI W) fC fK fH fQ fR a1 a2 a3 a4 a5 a6 a7 a8 a9 a10 a11 a12 a13 a14 a15 a16 a17 a18 a19 a20 a21 a22 a23 a24 a25 a26)
    (p1 : a16 1 = 0) (p2 : a17 1 = nI 1) (p3 : a18 12 = old) (p4 : a8 1 = (1 : Int32) <<< (nI cell &&& 31))
    (q1 : a16 2 = x10) (q2 : a17 2 = nI 2) (q3 : a18 24 = old + 1) (q4 : a18 25 = 3) (q5 : a8 2 = if x10 = 0 then (1 : Int32) <<< (nI cell &&& 31) else 0)
    (r1 : a16 3 = 0) (r2 : a17 3 = nI 1) (r3 : a18 36 = aft) (ha : aft = if x10 = 0 then 3 else old + 1) (h11 : x11 = if x10 = 0 then 4 else 3) (hcl : a1 cell = aft)
    (ht : x12 ≠ 0 → to ≠ cell → a1 to = high) :
    wL_lawOf_727 post mc ms x0 x2 (nI cell) high x10 x11 x12 (nI to) old kc ks (nI 4) 2 (nI W) fC fK fH fQ fR a1 a2 a3 a4 a5 a6 a7 a8 a9 a10 a11 a12 a13 a14 a15 a16 a17 a18 a19 a20 a21 a22 a23 a24 a25 a26 := by
  have h931 : wL_lawOf_931 post mc ms x0 x2 (nI cell) high x12 (nI to) aft kc ks (nI 4) 2 (nI W) fC fK fH fQ fR a1 a2 a3 a4 a5 a6 a7 a8 a9 a10 a11 a12 a13 a14 a15 a16 a17 a18 a19 a20 a21 a22 a23 a24 a25 a26 := by
    unfold wL_lawOf_931
    exact br_c (fun _ => hR) (fun z => pk_eq to cell (fun _ => hR) (fun y => wk_cell hto (br_t (ht z y) hR)))
  have h915 : wL_lawOf_915 post mc ms x0 x2 (nI cell) high x10 x12 (nI to) old aft kc ks (nI 4) 2 (nI W) fC fK fH fQ fR a1 a2 a3 a4 a5 a6 a7 a8 a9 a10 a11 a12 a13 a14 a15 a16 a17 a18 a19 a20 a21 a22 a23 a24 a25 a26 := by
    unfold wL_lawOf_915
    refine br_c (fun _ => h931) (fun z => br_t ?_ h931)
    rw [ha, if_neg z]
  have o1 : (if a16 1 = 0 then a17 1 else 0) = nI 1 := by rw [if_pos p1]; exact p2
  have o3 : (if a16 3 = 0 then a17 3 else 0) = nI 1 := by rw [if_pos r1]; exact r2
  unfold wL_lawOf_727
  refine wk_outs (n := 4) (t := 1) (by omega) (by omega) (br_t o1 (wk_out (n := 4) (t := 1) (j := 0) (oc := 1) (by omega) (by omega) (by omega) (by omega) o1 (br_t ?_ (wk_stored (n := 4) (t := 1) (by omega) (by omega) (br_t p4 (wk_outs (n := 4) (t := 2) (by omega) (by omega) ?_))))))
  · rw [if_pos (by omega)]; exact p3
  have e3 : (if 0 < 1 then a18 (12 * 3 + 0) else 0) = aft := by rw [if_pos (by omega)]; exact r3
  rcases h10 with z | z
  · subst z
    have o2 : (if a16 2 = 0 then a17 2 else 0) = nI 2 := by rw [if_pos q1]; exact q2
    rw [if_pos rfl] at ha h11 q5
    rw [o2]
    refine br_t rfl ?_
    unfold wL_lawOf_778
    refine br_t rfl (wk_out (n := 4) (t := 2) (j := 0) (oc := 2) (by omega) (by omega) (by omega) (by omega) o2 (br_t rfl ?_))
    unfold wL_lawOf_801
    refine br_t (by rw [if_pos (by omega)]; exact q3) (wk_out (n := 4) (t := 3) (j := 0) (oc := 1) (by omega) (by omega) (by omega) (by omega) o3 ?_)
    rw [e3]
    refine wk_result (n := 4) (t := 2) (by omega) (by omega) (br_t rfl ?_)
    unfold wL_lawOf_831
    refine br_t (by rw [if_pos q1]) (wk_stored (n := 4) (t := 2) (by omega) (by omega) (br_t rfl ?_))
    unfold wL_lawOf_853
    refine br_t q5 (br_t rfl ?_)
    unfold wL_lawOf_868
    refine br_t h11 (wk_outs (n := 4) (t := 3) (by omega) (by omega) (br_t o3 (wk_cell hc (br_t hcl (br_t rfl (br_t ha (wk_out (n := 4) (t := 2) (j := 1) (oc := 2) (by omega) (by omega) (by omega) (by omega) o2 (br_t ?_ h915))))))))
    rw [if_pos (by omega)]; exact q4
  · subst z
    have o2 : (if a16 2 = 0 then a17 2 else 0) = nI 0 := by rw [q1, if_neg (by decide)]; rfl
    rw [if_neg (by decide)] at ha h11 q5
    rw [o2]
    refine br_f (by decide) ?_
    unfold wL_lawOf_778
    refine br_t rfl (wk_out (n := 4) (t := 2) (j := 0) (oc := 0) (by omega) (by omega) (by omega) (by omega) o2 (br_f (by decide) ?_))
    unfold wL_lawOf_801
    refine br_t (by rw [if_neg (by omega)]) (wk_out (n := 4) (t := 3) (j := 0) (oc := 1) (by omega) (by omega) (by omega) (by omega) o3 ?_)
    rw [e3]
    refine wk_result (n := 4) (t := 2) (by omega) (by omega) (br_f (by decide) ?_)
    unfold wL_lawOf_831
    refine br_t (by rw [q1, if_neg (by decide)]) (wk_stored (n := 4) (t := 2) (by omega) (by omega) (br_f (by decide) ?_))
    unfold wL_lawOf_853
    refine br_t q5 (br_f (by decide) ?_)
    unfold wL_lawOf_868
    exact br_t h11 (wk_outs (n := 4) (t := 3) (by omega) (by omega) (br_t o3 (wk_cell hc (br_t hcl (br_f (by decide) h915)))))
/-- the law's checks of the first transaction, which stopped -/
theorem lw_558s (hto : to < 16) (eto : low &&& 15 = nI to)
    (hR : wL_lawOf_727 post mc ms x0 x2 (nI cell) high x10 x11 0 (nI to) x2 kc ks (nI 4) 2 (nI W) fC fK fH fQ fR a1 a2 a3 a4 a5 a6 a7 a8 a9 a10 a11 a12 a13 a14 a15 a16 a17 a18 a19 a20 a21 a22 a23 a24 a25 a26)
    (p1 : a16 0 = 0) (p2 : a17 0 = nI 0) (p3 : a8 0 = 0) :
    wL_lawOf_558 post mc ms x0 x2 (nI cell) low high x10 x11 0 kc ks (nI 4) 2 (nI W) fC fK fH fQ fR a1 a2 a3 a4 a5 a6 a7 a8 a9 a10 a11 a12 a13 a14 a15 a16 a17 a18 a19 a20 a21 a22 a23 a24 a25 a26 := by
  have h617 : ∀ z, wL_lawOf_617 post mc ms x0 x2 (nI cell) low high x10 x11 0 (nI to) x2 z kc ks (nI 4) 2 (nI W) fC fK fH fQ fR a1 a2 a3 a4 a5 a6 a7 a8 a9 a10 a11 a12 a13 a14 a15 a16 a17 a18 a19 a20 a21 a22 a23 a24 a25 a26 := by
    intro z
    unfold wL_lawOf_617
    refine wk_outs (n := 4) (t := 0) (by omega) (by omega) (br_t rfl ?_)
    unfold wL_lawOf_635
    refine br_t (by rw [if_pos p1]; exact p2) (wk_result (n := 4) (t := 0) (by omega) (by omega) (br_t (by rw [if_pos p1]) (wk_stored (n := 4) (t := 0) (by omega) (by omega) (br_t rfl ?_))))
    unfold wL_lawOf_667
    exact br_t p3 (br_t rfl hR)
  unfold wL_lawOf_558
  refine nm_r eto (br_t rfl ?_)
  unfold wL_lawOf_584 wL_lawOf_585
  exact br_c (fun _ => h617 _) (fun _ => br_c (fun _ => h617 _) (fun _ => h617 _))
/-- the law's checks of the first transaction, which went on -/
theorem lw_558g (hc : cell < 16) (hto : to < 16) (eto : low &&& 15 = nI to) (hhh : hh < 16) (ehh : high &&& 15 = nI hh)
    (hR : wL_lawOf_727 post mc ms x0 x2 (nI cell) high x10 x11 1 (nI to) (if to = cell then high else x2) kc ks (nI 4) 2 (nI W) fC fK fH fQ fR a1 a2 a3 a4 a5 a6 a7 a8 a9 a10 a11 a12 a13 a14 a15 a16 a17 a18 a19 a20 a21 a22 a23 a24 a25 a26)
    (p1 : a16 0 = 0) (p2 : a17 0 = nI 4) (p3 : a8 0 = (1 : Int32) <<< (nI to &&& 31)) (p4 : a18 0 = low) (p5 : a18 1 = if hh = to then high else if hh = cell then x2 else 0) (p6 : a18 2 = high) (p7 : a18 3 = low) :
    wL_lawOf_558 post mc ms x0 x2 (nI cell) low high x10 x11 1 kc ks (nI 4) 2 (nI W) fC fK fH fQ fR a1 a2 a3 a4 a5 a6 a7 a8 a9 a10 a11 a12 a13 a14 a15 a16 a17 a18 a19 a20 a21 a22 a23 a24 a25 a26 := by
  have o0 : (if a16 0 = 0 then a17 0 else 0) = nI 4 := by rw [if_pos p1]; exact p2
  have h617 : ∀ z y, z = (if hh = to then high else if hh = cell then x2 else 0) → y = (if to = cell then high else x2) → wL_lawOf_617 post mc ms x0 x2 (nI cell) low high x10 x11 1 (nI to) y z kc ks (nI 4) 2 (nI W) fC fK fH fQ fR a1 a2 a3 a4 a5 a6 a7 a8 a9 a10 a11 a12 a13 a14 a15 a16 a17 a18 a19 a20 a21 a22 a23 a24 a25 a26 := by
    intro z y hz hy
    subst hy
    unfold wL_lawOf_617
    refine wk_outs (n := 4) (t := 0) (by omega) (by omega) (br_f (by decide) ?_)
    unfold wL_lawOf_635
    refine br_t o0 (wk_result (n := 4) (t := 0) (by omega) (by omega) (br_t (by rw [if_pos p1]) (wk_stored (n := 4) (t := 0) (by omega) (by omega) (br_f (by decide) ?_))))
    unfold wL_lawOf_667
    refine br_t p3 (br_f (by decide) ?_)
    refine wk_out (n := 4) (t := 0) (j := 0) (oc := 4) (by omega) (by omega) (by omega) (by omega) o0 (br_t (by rw [if_pos (by omega)]; exact p4) ?_)
    refine wk_out (n := 4) (t := 0) (j := 1) (oc := 4) (by omega) (by omega) (by omega) (by omega) o0 (br_t (by rw [if_pos (by omega), hz]; exact p5) ?_)
    refine wk_out (n := 4) (t := 0) (j := 2) (oc := 4) (by omega) (by omega) (by omega) (by omega) o0 (br_t (by rw [if_pos (by omega)]; exact p6) ?_)
    exact wk_out (n := 4) (t := 0) (j := 3) (oc := 4) (by omega) (by omega) (by omega) (by omega) o0 (br_t (by rw [if_pos (by omega)]; exact p7) hR)
  have h585 : ∀ y, y = (if to = cell then high else x2) → wL_lawOf_585 post mc ms x0 x2 (nI cell) low high x10 x11 1 (nI to) y kc ks (nI 4) 2 (nI W) fC fK fH fQ fR a1 a2 a3 a4 a5 a6 a7 a8 a9 a10 a11 a12 a13 a14 a15 a16 a17 a18 a19 a20 a21 a22 a23 a24 a25 a26 := by
    intro y hy
    unfold wL_lawOf_585
    rw [ehh]
    refine pk_eq hh to (fun z => h617 _ _ (by rw [if_pos z]) hy) (fun z => pk_eq hh cell (fun z1 => h617 _ _ (by rw [if_neg z, if_pos z1]) hy) (fun z1 => h617 _ _ (by rw [if_neg z, if_neg z1]) hy))
  unfold wL_lawOf_558
  refine nm_r eto (br_f (by decide) (pk_eq to cell (fun z => h585 _ (by rw [if_pos z])) (fun z => ?_)))
  unfold wL_lawOf_584
  exact h585 _ (by rw [if_neg z])
end
end
section
def pg_p (a b cell : Nat) (low high v0 v6 : Int32) (a2 a3 a4 a5 : Nat → Int32) : Prop :=
  a2 0 = nI 12 ∧
  a2 1 = nI 6 ∧
  a2 2 = nI 7 ∧
  a2 3 = nI 2 ∧
  a3 0 = 0 ∧
  a4 0 = nI (4 * a) ∧
  a5 0 = low ∧
  a3 1 = 0 ∧
  a4 1 = nI (4 * b) ∧
  a5 1 = high ∧
  a3 2 = 6 ∧
  a4 2 = nI (4 * a + b) ∧
  a3 3 = 11 ∧
  a4 3 = nI 0 ∧
  a3 4 = 8 ∧
  a4 4 = nI (4 * a) ∧
  a3 5 = 10 ∧
  a4 5 = nI (4 * b + a) ∧
  a3 6 = 9 ∧
  a4 6 = nI (5 * b) ∧
  a3 7 = 8 ∧
  a4 7 = nI (4 * b) ∧
  a3 8 = 9 ∧
  a4 8 = nI (4 * b + a) ∧
  a3 9 = 8 ∧
  a4 9 = nI (4 * b) ∧
  a3 10 = 6 ∧
  a4 10 = nI (5 * a) ∧
  a3 11 = 8 ∧
  a4 11 = nI (5 * a) ∧
  a3 12 = 0 ∧
  a4 12 = nI 0 ∧
  a5 12 = v0 ∧
  a3 13 = 9 ∧
  a4 13 = nI 4 ∧
  a3 14 = 8 ∧
  a4 14 = nI 4 ∧
  a3 15 = 0 ∧
  a4 15 = nI 8 ∧
  a5 15 = 1 ∧
  a3 16 = 1 ∧
  a4 16 = nI 6 ∧
  a3 17 = 4 ∧
  a4 17 = nI 4 ∧
  a5 17 = nI cell ∧
  a3 24 = 3 ∧
  a4 24 = nI 0 ∧
  a5 24 = nI cell ∧
  a3 25 = 0 ∧
  a4 25 = nI 15 ∧
  a5 25 = 3 ∧
  a3 26 = 4 ∧
  a4 26 = nI 12 ∧
  a5 26 = nI cell ∧
  a3 27 = 8 ∧
  a4 27 = nI 0 ∧
  a3 28 = 3 ∧
  a4 28 = nI 8 ∧
  a5 28 = nI cell ∧
  a3 29 = 8 ∧
  a4 29 = nI 8 ∧
  a3 30 = 7 ∧
  a4 30 = nI 8 ∧
  a5 30 = v6 ∧
  a3 36 = 3 ∧
  a4 36 = nI 4 ∧
  a5 36 = nI cell ∧
  a3 37 = 8 ∧
  a4 37 = nI 4
def pg_l : Nat → Nat := fun t => if t = 0 then 12 else if t = 1 then 6 else if t = 2 then 7 else 2
theorem pg_k {a b cell : Nat} {low high v0 v6 : Int32} {a2 a3 a4 a5 : Nat → Int32} (ha : a < 4) (hb : b < 4) (H : pg_p a b cell low high v0 v6 a2 a3 a4 a5) : kr_p 4 pg_l a2 a4 := by
  obtain ⟨l0, l1, l2, l3, o0, p0, u0, o1, p1, u1, o2, p2, o3, p3, o4, p4, o5, p5, o6, p6, o7, p7, o8, p8, o9, p9, o10, p10, o11, p11, o12, p12, u12, o13, p13, o14, p14, o15, p15, u15, o16, p16, o17, p17, u17, o24, p24, u24, o25, p25, u25, o26, p26, u26, o27, p27, o28, p28, u28, o29, p29, o30, p30, u30, o36, p36, u36, o37, p37⟩ := H
  intro t ht
  have ht' : t = 0 ∨ t = 1 ∨ t = 2 ∨ t = 3 := by omega
  rcases ht' with z | z | z | z <;> subst z
  · refine ⟨l0, by decide, fun p hp => ?_⟩
    have hp2 : p < 12 := hp
    have hp3 : p = 0 ∨ p = 1 ∨ p = 2 ∨ p = 3 ∨ p = 4 ∨ p = 5 ∨ p = 6 ∨ p = 7 ∨ p = 8 ∨ p = 9 ∨ p = 10 ∨ p = 11 := by omega
    rcases hp3 with z | z | z | z | z | z | z | z | z | z | z | z <;> subst z
    · exact ⟨_, by omega, p0⟩
    · exact ⟨_, by omega, p1⟩
    · exact ⟨_, by omega, p2⟩
    · exact ⟨_, by omega, p3⟩
    · exact ⟨_, by omega, p4⟩
    · exact ⟨_, by omega, p5⟩
    · exact ⟨_, by omega, p6⟩
    · exact ⟨_, by omega, p7⟩
    · exact ⟨_, by omega, p8⟩
    · exact ⟨_, by omega, p9⟩
    · exact ⟨_, by omega, p10⟩
    · exact ⟨_, by omega, p11⟩
  · refine ⟨l1, by decide, fun p hp => ?_⟩
    have hp2 : p < 6 := hp
    have hp3 : p = 0 ∨ p = 1 ∨ p = 2 ∨ p = 3 ∨ p = 4 ∨ p = 5 := by omega
    rcases hp3 with z | z | z | z | z | z <;> subst z
    · exact ⟨_, by omega, p12⟩
    · exact ⟨_, by omega, p13⟩
    · exact ⟨_, by omega, p14⟩
    · exact ⟨_, by omega, p15⟩
    · exact ⟨_, by omega, p16⟩
    · exact ⟨_, by omega, p17⟩
  · refine ⟨l2, by decide, fun p hp => ?_⟩
    have hp2 : p < 7 := hp
    have hp3 : p = 0 ∨ p = 1 ∨ p = 2 ∨ p = 3 ∨ p = 4 ∨ p = 5 ∨ p = 6 := by omega
    rcases hp3 with z | z | z | z | z | z | z <;> subst z
    · exact ⟨_, by omega, p24⟩
    · exact ⟨_, by omega, p25⟩
    · exact ⟨_, by omega, p26⟩
    · exact ⟨_, by omega, p27⟩
    · exact ⟨_, by omega, p28⟩
    · exact ⟨_, by omega, p29⟩
    · exact ⟨_, by omega, p30⟩
  · refine ⟨l3, by decide, fun p hp => ?_⟩
    have hp2 : p < 2 := hp
    have hp3 : p = 0 ∨ p = 1 := by omega
    rcases hp3 with z | z <;> subst z
    · exact ⟨_, by omega, p36⟩
    · exact ⟨_, by omega, p37⟩
theorem pg_v (x : Int32) {cell : Nat} (hc : cell < 16) : (nI cell + 16 * (x &&& 7)) &&& 15 = nI cell := by
  obtain ⟨j, hj, e⟩ := pk_andE x 3 (show (7 : Int32).toBitVec.toNat = 2 ^ 3 - 1 by decide)
  rw [e, show (16 : Int32) * nI j = nI (16 * j) from pk_mul 16 j, nI_add, pk_andN (by omega) 4 (by decide)]
  congr 1
  omega
section
variable {fN fP fW fC fK fH fQ fR : Int32} {a1 a2 a3 a4 a5 a6 a7 a8 a9 a10 a11 a12 a13 a14 a15 a16 a17 a18 a19 a20 a21 a22 a23 a24 a25 a26 : Nat → Int32} {post : Int32 → St0 → Prop} {mc ms kc ks W a b cell : Nat} {x0 x2 x3 x10 low high v0 v6 : Int32}
/-- what the law finds behind the first run -/
theorem lw_run (ha : a < 4) (hb : b < 4) (hab : a ≠ b) (hc : cell < 16) (hW1 : 1 ≤ W) (hW : W ≤ 6) (hv0 : v0 &&& 15 = nI cell) (h10 : (x10 = 0 ∧ v6 = 3) ∨ (x10 = 1 ∧ v6 = 4)) (H : pg_p a b cell low high v0 v6 a2 a3 a4 a5)
    (hs : ∀ c, c < 16 → a1 c = if c = cell then x2 else 0) (hp : post 1 ()) (Q : Int32 → St2 → Prop)
    (hQ : ∀ (r fC fK fH fQ : Int32) (a1 a6 a7 a8 a9 a10 a11 a12 a13 a14 a15 a16 a17 a18 a19 a20 a21 a22 a23 a24 a25 a26 : Nat → Int32), (high ≤ low → wL_lawOf_558 post mc ms x0 x2 (nI cell) low high x10 r 0 kc ks (nI 4) 2 (nI W) fC fK fH fQ fR a1 a2 a3 a4 a5 a6 a7 a8 a9 a10 a11 a12 a13 a14 a15 a16 a17 a18 a19 a20 a21 a22 a23 a24 a25 a26) → (¬ high ≤ low → wL_lawOf_558 post mc ms x0 x2 (nI cell) low high x10 r 1 kc ks (nI 4) 2 (nI W) fC fK fH fQ fR a1 a2 a3 a4 a5 a6 a7 a8 a9 a10 a11 a12 a13 a14 a15 a16 a17 a18 a19 a20 a21 a22 a23 a24 a25 a26) → Q r (nI 4, 2, nI W, fC, fK, fH, fQ, fR, a1, a2, a3, a4, a5, a6, a7, a8, a9, a10, a11, a12, a13, a14, a15, a16, a17, a18, a19, a20, a21, a22, a23, a24, a25, a26)) :
    fn_p 4 W pg_l fR a1 a2 a3 a4 a5 Q := by
  obtain ⟨l0, l1, l2, l3, o0, p0, u0, o1, p1, u1, o2, p2, o3, p3, o4, p4, o5, p5, o6, p6, o7, p7, o8, p8, o9, p9, o10, p10, o11, p11, o12, p12, u12, o13, p13, o14, p14, o15, p15, u15, o16, p16, o17, p17, u17, o24, p24, u24, o25, p25, u25, o26, p26, u26, o27, p27, o28, p28, u28, o29, p29, o30, p30, u30, o36, p36, u36, o37, p37⟩ := H
  intro fC fK fH fQ b1 b6 b7 b8 b9 b10 b11 b12 b13 b14 b15 b16 b17 b18 b19 b20 b21 b22 b23 b24 b25 b26 F h1
  obtain ⟨rc, rl, rf, rt, rv, F1, F2⟩ := F
  obtain ⟨_, _, _, V0, R0⟩ := F1 0 (by omega)
  obtain ⟨_, _, _, V1, R1⟩ := F1 1 (by omega)
  obtain ⟨_, _, _, V2, R2⟩ := F1 2 (by omega)
  obtain ⟨_, _, _, V3, R3⟩ := F1 3 (by omega)
  obtain ⟨s11, s12, s13, s14, s15⟩ := sq_1 (t := 1) (cell := cell) V1 R1 hc hv0 rfl o12 p12 u12 o13 p13 o14 p14 o15 p15 u15 o16 p16 o17 p17 u17
  obtain ⟨s21, s22, s23, s24, s25, s26⟩ := sq_2 (t := 2) (cell := cell) V2 R2 hc rfl o24 p24 u24 o25 p25 u25 o26 p26 u26 o27 p27 o28 p28 u28 o29 p29 o30 p30 u30
  obtain ⟨s31, s32, s33, s34⟩ := sq_3 (t := 3) (x := 1) (cell := cell) V3 R3 hc rfl (by omega) o36 p36 u36 o37 p37
  have b1c : xb_bt (b8 1) cell = true := by
    rw [s14, xb_1shl (by omega) (by omega)]; simp
  have c2 : fn_c a1 b6 b8 2 cell = fn_c a1 b6 b8 1 cell + 1 := by rw [fn_cs, if_pos b1c, s15]
  have c3 : fn_c a1 b6 b8 3 cell = if x10 = 0 then 3 else fn_c a1 b6 b8 1 cell + 1 := by
    rw [fn_cs]
    rcases h10 with ⟨z1, z2⟩ | ⟨z1, z2⟩
    · rw [if_pos z1, if_pos]
      · exact s26 (by rw [z2]; decide)
      · rw [s25, z2, if_pos (by decide), xb_1shl (by omega) (by omega)]; simp
    · rw [if_neg (show ¬ x10 = 0 by rw [z1]; decide), if_neg]
      · exact c2
      · rw [s25, z2, if_neg (by decide), xb_0]; decide
  have c4 : ∀ c, fn_c a1 b6 b8 4 c = fn_c a1 b6 b8 3 c := by
    intro c
    rw [fn_cs, s34, xb_0, if_neg (by decide)]
  have q21 : b16 2 = x10 := by
    rw [s21]
    rcases h10 with ⟨z1, z2⟩ | ⟨z1, z2⟩
    · rw [z1, z2]; decide
    · rw [z1, z2]; decide
  have q25 : b8 2 = if x10 = 0 then (1 : Int32) <<< (nI cell &&& 31) else 0 := by
    rw [s25]
    rcases h10 with ⟨z1, z2⟩ | ⟨z1, z2⟩
    · rw [z1, z2, if_pos (by decide), if_pos rfl]
    · rw [z1, z2, if_neg (by decide), if_neg (by decide)]
  have h10' : x10 = 0 ∨ x10 = 1 := by
    rcases h10 with z | z
    · exact Or.inl z.1
    · exact Or.inr z.1
  have got : b16 0 = 0 → nI (fn_d b16 4) = if x10 = 0 then 4 else 3 := by
    intro z0
    have : fn_d b16 4 = 0 + (if b16 0 = 0 then 1 else 0) + (if b16 1 = 0 then 1 else 0) + (if b16 2 = 0 then 1 else 0) + (if b16 3 = 0 then 1 else 0) := rfl
    rw [this, if_pos z0, if_pos s11, if_pos s31, q21]
    rcases h10' with z | z
    · rw [z]; rfl
    · rw [z]; rfl
  have hcl : b1 cell = fn_c a1 b6 b8 3 cell := by rw [h1 cell hc, c4]
  obtain ⟨to, hto, eto⟩ := xb_and15 low
  obtain ⟨hh, hhh, ehh⟩ := xb_and15 high
  have R957 : wL_lawOf_957 post mc ms x0 x2 (nI cell) (fn_c a1 b6 b8 3 cell) kc ks (nI 4) 2 (nI W) fC fK fH fQ fR b1 a2 a3 a4 a5 b6 b7 b8 b9 b10 b11 b12 b13 b14 b15 b16 b17 b18 b19 b20 b21 b22 b23 b24 b25 b26 := lw_957 hc hW1 hW hcl hp
  refine hQ _ _ _ _ _ _ _ _ _ _ _ _ _ _ _ _ _ _ _ _ _ _ _ _ _ _ _ (fun hg => ?_) (fun hg => ?_)
  · obtain ⟨s01, s02, s03⟩ := sq_0s V0 ha hb hab rfl hg o0 p0 u0 o1 p1 u1 o2 p2 o3 p3
    have c1 : fn_c a1 b6 b8 1 cell = x2 := by
      rw [fn_cs, s03, xb_0, if_neg (by decide), fn_cz, hs cell hc, if_pos rfl]
    refine lw_558s hto eto ?_ s01 s02 s03
    refine lw_727 hc hto h10' R957 s11 s12 (s13.trans c1) s14 q21 s22 (s23.trans (by rw [c2, c1])) s24 q25 s31 s32 s33 (by rw [c3, c1]) (got s01) hcl (fun z => absurd rfl z)
  · obtain ⟨s01, s02, s03, s04, s05, s06, s07, s08⟩ := sq_0g V0 R0 ha hb hab rfl hg hto eto hhh ehh o0 p0 u0 o1 p1 u1 o2 p2 o4 p4 o5 p5 o6 p6 o7 p7 o8 p8 o9 p9 o10 p10 o11 p11
    have b0 : ∀ c, c < 16 → (xb_bt (b8 0) c = true ↔ c = to) := by
      intro c hc'
      rw [s03, xb_1shl (by omega) (by omega)]; simp
    have c1 : fn_c a1 b6 b8 1 cell = if to = cell then high else x2 := by
      rw [fn_cs]
      by_cases z : to = cell
      · rw [if_pos ((b0 cell hc).mpr z.symm), if_pos z, ← z]; exact s08
      · rw [if_neg (fun y => z ((b0 cell hc).mp y).symm), if_neg z, fn_cz, hs cell hc, if_pos rfl]
    have s05' : b18 1 = if hh = to then high else if hh = cell then x2 else 0 := by
      rw [s05, hs hh hhh]
    refine lw_558g hc hto eto hhh ehh ?_ s01 s02 s03 s04 s05' s06 s07
    refine lw_727 hc hto h10' R957 s11 s12 (s13.trans c1) s14 q21 s22 (s23.trans (by rw [c2, c1])) s24 q25 s31 s32 s33 (by rw [c3, c1]) (got s01) hcl (fun _ y => ?_)
    rw [h1 to hto, c4, fn_cs, if_neg, fn_cs, if_neg, fn_cs, if_pos ((b0 to hto).mpr rfl)]
    · exact s08
    · rw [s14, xb_1shl (by omega) (by omega)]; simpa using y
    · rw [q25]
      split
      · rw [xb_1shl (by omega) (by omega)]; simpa using y
      · rw [xb_0]; decide
/-- the law's loop over work, and the run -/
theorem lw_500 (ha : a < 4) (hb : b < 4) (hab : a ≠ b) (hc : cell < 16) (hW1 : 1 ≤ W) (hW : W ≤ 6) (hv0 : v0 &&& 15 = nI cell) (h10 : (x10 = 0 ∧ v6 = 3) ∨ (x10 = 1 ∧ v6 = 4)) (H : pg_p a b cell low high v0 v6 a2 a3 a4 a5)
    (hs : ∀ c, c < 16 → a1 c = if c = cell then x2 else 0) (hp : post 1 ()) :
    ∃ fu, wL_lawOf_500 post mc ms x0 x2 x3 (nI cell) low high x10 kc ks fu 0 (nI 4) 0 (nI W) fC fK fH fQ fR a1 a2 a3 a4 a5 a6 a7 a8 a9 a10 a11 a12 a13 a14 a15 a16 a17 a18 a19 a20 a21 a22 a23 a24 a25 a26 := by
  obtain ⟨N, hN, eN⟩ := pk_andE (x3 >>> ((4 : Int32) &&& 31)) 3 (show (7 : Int32).toBitVec.toNat = 2 ^ 3 - 1 by decide)
  have P := pg_k ha hb H
  have key : ∀ (m i q Φ d c k : Nat) (fH : Int32) (a6 a7 a8 a9 a10 a11 a12 a13 a14 a15 a16 a17 a18 a19 a20 a21 a22 a23 a24 a25 a26 : Nat → Int32), i + m = N → (kr_a 4 W pg_l q Φ c k a1 a3 a4 a5 a6 a7 a8 a9 a10 a11 a12 a13 a14 a15 a16 a17 a18 a19 a20 a21 a22 a23 a24 a25 a26) → fa_r W q d a19 → d ≤ 24 → q + 25 * Φ + d ≤ 100000 →
      wL_lawOf_500 post mc ms x0 x2 x3 (nI cell) low high x10 kc ks (m + 1) (nI i) (nI 4) 1 (nI W) (nI c) (nI k) fH (nI q) fR a1 a2 a3 a4 a5 a6 a7 a8 a9 a10 a11 a12 a13 a14 a15 a16 a17 a18 a19 a20 a21 a22 a23 a24 a25 a26 := by
    intro m
    induction m with
    | zero =>
      intro i q Φ d c k fH a6 a7 a8 a9 a10 a11 a12 a13 a14 a15 a16 a17 a18 a19 a20 a21 a22 a23 a24 a25 a26 hi g1 g2 g3 g4
      refine pk_le N i (fun _ => wk_runA P hW1 g1 g2 g3 g4 ?_) (fun z => absurd z (by omega)) eN
      exact lw_run ha hb hab hc hW1 hW hv0 h10 H hs hp _ (fun r fC fK fH fQ c1 c6 c7 c8 c9 c10 c11 c12 c13 c14 c15 c16 c17 c18 c19 c20 c21 c22 c23 c24 c25 c26 z1 z2 => ⟨z1, z2⟩)
    | succ m ih =>
      intro i q Φ d c k fH a6 a7 a8 a9 a10 a11 a12 a13 a14 a15 a16 a17 a18 a19 a20 a21 a22 a23 a24 a25 a26 hi g1 g2 g3 g4
      refine pk_le N i (fun z => absurd z (by omega)) (fun _ => ?_) eN
      rw [pk_mul]
      have hii : i * i < 2 ^ 31 := by
        have : i * i ≤ 8 * 8 := Nat.mul_le_mul (by omega) (by omega)
        omega
      refine wk_workA (st := i * i) hii P hW1 g1 g2 g3 g4 ?_
      intro q' Φ' d' c' k' h' b6 b7 b8 b9 b10 b11 b12 b13 b14 b15 b16 b17 b18 b19 b20 b21 b22 b23 b24 b25 b26 g1' g2' g3' g4'
      exact br_t rfl (nm_r (nI_1 i) (ih (i + 1) q' Φ' d' c' k' h' b6 b7 b8 b9 b10 b11 b12 b13 b14 b15 b16 b17 b18 b19 b20 b21 b22 b23 b24 b25 b26 (by omega) g1' g2' g3' g4'))
  cases N with
  | zero =>
    refine ⟨1, pk_le 0 0 (fun _ => wk_runB P (by omega) hW1 hW ?_) (fun z => absurd z (by omega)) eN⟩
    exact lw_run ha hb hab hc hW1 hW hv0 h10 H hs hp _ (fun r fC fK fH fQ c1 c6 c7 c8 c9 c10 c11 c12 c13 c14 c15 c16 c17 c18 c19 c20 c21 c22 c23 c24 c25 c26 z1 z2 => ⟨z1, z2⟩)
  | succ m =>
    refine ⟨m + 1 + 1, pk_le (m + 1) 0 (fun z => absurd z (by omega)) (fun _ => ?_) eN⟩
    refine wk_workB (st := 0) (by omega) P (by omega) hW1 hW ?_
    intro q' Φ' d' c' k' h' b6 b7 b8 b9 b10 b11 b12 b13 b14 b15 b16 b17 b18 b19 b20 b21 b22 b23 b24 b25 b26 g1' g2' g3' g4'
    exact br_t rfl (nm_r (nI_1 0) (key m (0 + 1) q' Φ' d' c' k' h' b6 b7 b8 b9 b10 b11 b12 b13 b14 b15 b16 b17 b18 b19 b20 b21 b22 b23 b24 b25 b26 (by omega) g1' g2' g3' g4'))
end
end
section
def pg_q (a b cell : Nat) (low high v0 : Int32) (a2 a3 a4 a5 : Nat → Int32) : Prop :=
  a2 0 = nI 12 ∧
  a2 1 = nI 6 ∧
  a3 0 = 0 ∧
  a4 0 = nI (4 * a) ∧
  a5 0 = low ∧
  a3 1 = 0 ∧
  a4 1 = nI (4 * b) ∧
  a5 1 = high ∧
  a3 2 = 6 ∧
  a4 2 = nI (4 * a + b) ∧
  a3 3 = 11 ∧
  a4 3 = nI (0) ∧
  a3 4 = 8 ∧
  a4 4 = nI (4 * a) ∧
  a3 5 = 10 ∧
  a4 5 = nI (4 * b + a) ∧
  a3 6 = 9 ∧
  a4 6 = nI (5 * b) ∧
  a3 7 = 8 ∧
  a4 7 = nI (4 * b) ∧
  a3 8 = 9 ∧
  a4 8 = nI (4 * b + a) ∧
  a3 9 = 8 ∧
  a4 9 = nI (4 * b) ∧
  a3 10 = 6 ∧
  a4 10 = nI (5 * a) ∧
  a3 11 = 8 ∧
  a4 11 = nI (5 * a) ∧
  a3 12 = 0 ∧
  a4 12 = nI (0) ∧
  a5 12 = v0 ∧
  a3 13 = 9 ∧
  a4 13 = nI (4) ∧
  a3 14 = 8 ∧
  a4 14 = nI (4) ∧
  a3 15 = 0 ∧
  a4 15 = nI (8) ∧
  a5 15 = 1 ∧
  a3 16 = 1 ∧
  a4 16 = nI (6) ∧
  a3 17 = 4 ∧
  a4 17 = nI (4) ∧
  a5 17 = nI cell
section
variable {fN fP fW fC fK fH fQ fR : Int32} {a1 a2 a3 a4 a5 a6 a7 a8 a9 a10 a11 a12 a13 a14 a15 a16 a17 a18 a19 a20 a21 a22 a23 a24 a25 a26 : Nat → Int32} {post : Int32 → St0 → Prop} {mc ms kc ks W a b cell : Nat} {x0 x2 x3 x10 low high v0 v6 : Int32}
theorem lw_453 (ha : a < 4) (hb : b < 4) (hab : a ≠ b) (hc : cell < 16) (hW1 : 1 ≤ W) (hW : W ≤ 6) (hv0 : v0 &&& 15 = nI cell) (h10 : (x10 = 0 ∧ v6 = 3) ∨ (x10 = 1 ∧ v6 = 4)) (H : pg_q a b cell low high v0 a2 a3 a4 a5)
    (hs : ∀ c, c < 16 → a1 c = if c = cell then x2 else 0) (hp : post 1 ()) (l2 : a2 2 = nI 6)
    (h2 : a3 24 = 3 ∧ a4 24 = nI 0 ∧ a5 24 = nI cell ∧ a3 25 = 0 ∧ a4 25 = nI 15 ∧ a5 25 = 3 ∧ a3 26 = 4 ∧ a4 26 = nI 12 ∧ a5 26 = nI cell ∧ a3 27 = 8 ∧ a4 27 = nI 0 ∧ a3 28 = 3 ∧ a4 28 = nI 8 ∧ a5 28 = nI cell ∧ a3 29 = 8 ∧ a4 29 = nI 8) :
    wL_lawOf_453 post mc ms x0 x2 x3 (nI cell) low high x10 v6 8 7 kc ks (nI 3) 0 (nI W) fC fK fH fQ fR a1 a2 a3 a4 a5 a6 a7 a8 a9 a10 a11 a12 a13 a14 a15 a16 a17 a18 a19 a20 a21 a22 a23 a24 a25 a26 := by
  obtain ⟨l0, l1, o0, p0, u0, o1, p1, u1, o2, p2, o3, p3, o4, p4, o5, p5, o6, p6, o7, p7, o8, p8, o9, p9, o10, p10, o11, p11, o12, p12, u12, o13, p13, o14, p14, o15, p15, u15, o16, p16, o17, p17, u17⟩ := H
  obtain ⟨o24, p24, u24, o25, p25, u25, o26, p26, u26, o27, p27, o28, p28, u28, o29, p29⟩ := h2
  unfold wL_lawOf_453
  refine wk_add (t := 2) (len := 6) (p0 := 7) (p1 := 8) (by omega) (by omega) l2 rfl rfl (by omega) (by omega) (br_t rfl ?_)
  dsimp only
  refine wk_begin (t := 3) (by omega) (br_t rfl ?_)
  dsimp only
  refine wk_add (t := 3) (len := 0) (p0 := 3) (p1 := 4) (by omega) (by omega) rfl rfl rfl (by omega) (by omega) (br_t rfl ?_)
  dsimp only
  refine wk_add (t := 3) (len := 1) (p0 := 8) (p1 := 4) (by omega) (by omega) rfl rfl rfl (by omega) (by omega) (br_t rfl ?_)
  dsimp only
  exact lw_500 (a := a) (b := b) (v0 := v0) (v6 := v6) ha hb hab hc hW1 hW hv0 h10 ⟨l0, l1, rfl, rfl, o0, p0, u0, o1, p1, u1, o2, p2, o3, p3, o4, p4, o5, p5, o6, p6, o7, p7, o8, p8, o9, p9, o10, p10, o11, p11, o12, p12, u12, o13, p13, o14, p14, o15, p15, u15, o16, p16, o17, p17, u17, o24, p24, u24, o25, p25, u25, o26, p26, u26, o27, p27, o28, p28, u28, o29, p29, rfl, rfl, rfl, rfl, rfl, rfl, rfl, rfl⟩ hs hp
theorem lw_346 (ha : a < 4) (hb : b < 4) (hab : a ≠ b) (hc : cell < 16) (hW1 : 1 ≤ W) (hW : W ≤ 6) (hv0 : v0 &&& 15 = nI cell) (h10 : x10 = 0 ∨ x10 = 1) (H : pg_q a b cell low high v0 a2 a3 a4 a5)
    (hs : ∀ c, c < 16 → a1 c = if c = cell then x2 else 0) (hp : post 1 ()) :
    wL_lawOf_346 post mc ms x0 x2 x3 (nI cell) low high x10 kc ks (nI 2) 0 (nI W) fC fK fH fQ fR a1 a2 a3 a4 a5 a6 a7 a8 a9 a10 a11 a12 a13 a14 a15 a16 a17 a18 a19 a20 a21 a22 a23 a24 a25 a26 := by
  unfold wL_lawOf_346
  refine wk_begin (t := 2) (by omega) (br_t rfl ?_)
  dsimp only
  refine wk_add (t := 2) (len := 0) (p0 := 3) (p1 := 0) (by omega) (by omega) rfl rfl rfl (by omega) (by omega) (br_t rfl ?_)
  dsimp only
  refine wk_add (t := 2) (len := 1) (p0 := 0) (p1 := 15) (by omega) (by omega) rfl rfl rfl (by omega) (by omega) (br_t rfl ?_)
  dsimp only
  refine wk_add (t := 2) (len := 2) (p0 := 4) (p1 := 12) (by omega) (by omega) rfl rfl rfl (by omega) (by omega) (br_t rfl ?_)
  dsimp only
  refine wk_add (t := 2) (len := 3) (p0 := 8) (p1 := 0) (by omega) (by omega) rfl rfl rfl (by omega) (by omega) (br_t rfl ?_)
  dsimp only
  refine wk_add (t := 2) (len := 4) (p0 := 3) (p1 := 8) (by omega) (by omega) rfl rfl rfl (by omega) (by omega) (br_t rfl ?_)
  dsimp only
  refine wk_add (t := 2) (len := 5) (p0 := 8) (p1 := 8) (by omega) (by omega) rfl rfl rfl (by omega) (by omega) (br_t rfl ?_)
  dsimp only
  obtain ⟨l0, l1, o0, p0, u0, o1, p1, u1, o2, p2, o3, p3, o4, p4, o5, p5, o6, p6, o7, p7, o8, p8, o9, p9, o10, p10, o11, p11, o12, p12, u12, o13, p13, o14, p14, o15, p15, u15, o16, p16, o17, p17, u17⟩ := H
  refine br_c (fun z => ?_) (fun z => ?_)
  · exact lw_453 (a := a) (b := b) (v0 := v0) (v6 := 3) ha hb hab hc hW1 hW hv0 (Or.inl ⟨z, rfl⟩) ⟨l0, l1, o0, p0, u0, o1, p1, u1, o2, p2, o3, p3, o4, p4, o5, p5, o6, p6, o7, p7, o8, p8, o9, p9, o10, p10, o11, p11, o12, p12, u12, o13, p13, o14, p14, o15, p15, u15, o16, p16, o17, p17, u17⟩ hs hp rfl ⟨rfl, rfl, rfl, rfl, rfl, rfl, rfl, rfl, rfl, rfl, rfl, rfl, rfl, rfl, rfl, rfl⟩
  · have z1 : x10 = 1 := by
      rcases h10 with y | y
      · exact absurd y z
      · exact y
    exact lw_453 (a := a) (b := b) (v0 := v0) (v6 := 4) ha hb hab hc hW1 hW hv0 (Or.inr ⟨z1, rfl⟩) ⟨l0, l1, o0, p0, u0, o1, p1, u1, o2, p2, o3, p3, o4, p4, o5, p5, o6, p6, o7, p7, o8, p8, o9, p9, o10, p10, o11, p11, o12, p12, u12, o13, p13, o14, p14, o15, p15, u15, o16, p16, o17, p17, u17⟩ hs hp rfl ⟨rfl, rfl, rfl, rfl, rfl, rfl, rfl, rfl, rfl, rfl, rfl, rfl, rfl, rfl, rfl, rfl⟩
end
theorem lw_cell {post : Int32 → Prop} {L i : Nat} {xs : Nat → Int32} (hL : L ≤ 4) (hi : i < 4) (h : ∀ v, post v) : wpL_cellAt post L xs () (nI i) :=
  pk_le L i (fun _ => h _) (fun z => ⟨pk_in i L z, h _⟩)
theorem wk_init {post : St2 → Prop} {p : Int32} (hp : ∀ W, 1 ≤ W → W ≤ 6 → post (0, 0, nI W, 0, 0, 0, 0, 0, (fun _ => 0), (fun _ => 0), (fun _ => 0), (fun _ => 0), (fun _ => 0), (fun _ => 0), (fun _ => 0), (fun _ => 0), (fun _ => 0), (fun _ => 0), (fun _ => 0), (fun _ => 0), (fun _ => 0), (fun _ => 0), (fun _ => 0), (fun _ => 0), (fun _ => 0), (fun _ => 0), (fun _ => 0), (fun _ => 0), (fun _ => 0), (fun _ => 0), (fun _ => 0), (fun _ => 0), (fun _ => 0), (fun _ => 0))) : wpX_init post 26 1164 (0, 0, 0, 0, 0, 0, 0, 0) p := by
  unfold wpX_init
  dsimp only
  refine ⟨by decide, by decide, by decide, by decide, by decide, by decide, by decide, by decide, by decide, by decide, by decide, by decide, by decide, by decide, by decide, by decide, by decide, by decide, by decide, by decide, by decide, by decide, by decide, by decide, by decide, by decide, by decide, by decide, by decide, by decide, by decide, by decide, by decide, by decide, by decide, by decide, by decide, by decide, by decide, by decide, by decide, by decide, by decide, by decide, by decide, by decide, by decide, by decide, by decide, by decide, by decide, by decide, ?_⟩
  refine br_c (fun z1 => br_c (fun z2 => ?_) (fun z2 => hp 6 (by omega) (by omega))) (fun z1 => hp 1 (by omega) (by omega))
  have h0 : ¬ p < 0 := by
    intro z
    have e1 : (1 : Int32).toInt ≤ p.toInt := Int32.le_iff_toInt_le.mp z1
    have e2 : p.toInt < (0 : Int32).toInt := Int32.lt_iff_toInt_lt.mp z
    have e3 : (1 : Int32).toInt = 1 := by decide
    have e4 : (0 : Int32).toInt = 0 := by decide
    omega
  obtain ⟨j, hj, ej⟩ := nI_of2 (n := 6) (M := 6) (by decide) h0 z2
  subst ej
  refine hp j ?_ hj
  rcases Nat.lt_or_ge j 1 with y | y
  · exact absurd z1 (nI_ge (b := 1) y (by decide))
  · exact y
theorem lw_ab (p : Int32) : ∃ a b : Nat, a < 4 ∧ b < 4 ∧ a ≠ b ∧ p &&& 3 = nI a ∧ ((nI a + 1) + (((p >>> ((2 : Int32) &&& 31)) &&& 255) - ((p >>> ((2 : Int32) &&& 31)) &&& 255) / 3 * 3)) &&& 3 = nI b := by
  obtain ⟨a, ha, ea⟩ := pk_andE p 2 (show (3 : Int32).toBitVec.toNat = 2 ^ 2 - 1 by decide)
  obtain ⟨j, hj, ej⟩ := pk_andE (p >>> ((2 : Int32) &&& 31)) 8 (show (255 : Int32).toBitVec.toNat = 2 ^ 8 - 1 by decide)
  refine ⟨a, (a + 1 + j % 3) % 4, ha, Nat.mod_lt _ (by omega), by omega, ea, ?_⟩
  rw [ej, show (nI j - nI j / 3 * 3 : Int32) = nI (j % 3) from pk_rem (d := 3) (by omega) (by omega) (by omega), nI_1, nI_add, pk_andN (by omega) 2 (by decide)]
theorem lw_law {post : Int32 → St0 → Prop} {p0 p1 p2 p3 : Int32} (hp : post 1 ()) : wpL_lawOf post 27 1198 () p0 p1 p2 p3 := by
  unfold wpL_lawOf
  refine ⟨by decide, by decide, 26, 1164, by decide, by decide, wk_init (fun W hW1 hW => ?_)⟩
  obtain ⟨a, b, ha, hb, hab, ea, eb⟩ := lw_ab p0
  obtain ⟨cell, hc, ec⟩ := xb_and15 (p0 >>> ((10 : Int32) &&& 31))
  dsimp only
  rw [ea]
  refine nm_e ⟨by decide, nm_r eb (nm_r ec ⟨by decide, fun low _ => ⟨by decide, fun high _ => ?_⟩⟩)⟩
  refine wk_poke hc (by decide) ?_
  dsimp only
  refine wk_begin (t := 0) (by omega) ?_
  dsimp only
  refine wk_add (t := 0) (len := 0) (p0 := 0) (p1 := 4 * a) (by omega) (by omega) rfl rfl (pk_mul 4 a) (by omega) (by omega) ?_
  dsimp only
  refine wk_add (t := 0) (len := 1) (p0 := 0) (p1 := 4 * b) (by omega) (by omega) rfl rfl (pk_mul 4 b) (by omega) (by omega) ?_
  dsimp only
  refine wk_add (t := 0) (len := 2) (p0 := 6) (p1 := 4 * a + b) (by omega) (by omega) rfl rfl (wa_4 a b) (by omega) (by omega) ?_
  dsimp only
  refine wk_add (t := 0) (len := 3) (p0 := 11) (p1 := 0) (by omega) (by omega) rfl rfl rfl (by omega) (by omega) ?_
  dsimp only
  refine wk_add (t := 0) (len := 4) (p0 := 8) (p1 := 4 * a) (by omega) (by omega) rfl rfl (pk_mul 4 a) (by omega) (by omega) ?_
  dsimp only
  refine wk_add (t := 0) (len := 5) (p0 := 10) (p1 := 4 * b + a) (by omega) (by omega) rfl rfl (wa_4 b a) (by omega) (by omega) ?_
  dsimp only
  refine wk_add (t := 0) (len := 6) (p0 := 9) (p1 := 5 * b) (by omega) (by omega) rfl rfl (pk_mul 5 b) (by omega) (by omega) ?_
  dsimp only
  refine wk_add (t := 0) (len := 7) (p0 := 8) (p1 := 4 * b) (by omega) (by omega) rfl rfl (pk_mul 4 b) (by omega) (by omega) ?_
  dsimp only
  refine wk_add (t := 0) (len := 8) (p0 := 9) (p1 := 4 * b + a) (by omega) (by omega) rfl rfl (wa_4 b a) (by omega) (by omega) ?_
  dsimp only
  refine wk_add (t := 0) (len := 9) (p0 := 8) (p1 := 4 * b) (by omega) (by omega) rfl rfl (pk_mul 4 b) (by omega) (by omega) ?_
  dsimp only
  refine wk_add (t := 0) (len := 10) (p0 := 6) (p1 := 5 * a) (by omega) (by omega) rfl rfl (pk_mul 5 a) (by omega) (by omega) ?_
  dsimp only
  refine wk_add (t := 0) (len := 11) (p0 := 8) (p1 := 5 * a) (by omega) (by omega) rfl rfl (pk_mul 5 a) (by omega) (by omega) (br_t rfl ?_)
  dsimp only
  refine wk_begin (t := 1) (by omega) (br_t rfl ?_)
  dsimp only
  refine wk_add (t := 1) (len := 0) (p0 := 0) (p1 := 0) (by omega) (by omega) rfl rfl rfl (by omega) (by omega) (br_t rfl ?_)
  dsimp only
  refine wk_add (t := 1) (len := 1) (p0 := 9) (p1 := 4) (by omega) (by omega) rfl rfl rfl (by omega) (by omega) (br_t rfl ?_)
  dsimp only
  refine wk_add (t := 1) (len := 2) (p0 := 8) (p1 := 4) (by omega) (by omega) rfl rfl rfl (by omega) (by omega) (br_t rfl ?_)
  dsimp only
  refine wk_add (t := 1) (len := 3) (p0 := 0) (p1 := 8) (by omega) (by omega) rfl rfl rfl (by omega) (by omega) (br_t rfl ?_)
  dsimp only
  refine wk_add (t := 1) (len := 4) (p0 := 1) (p1 := 6) (by omega) (by omega) rfl rfl rfl (by omega) (by omega) (br_t rfl ?_)
  dsimp only
  refine wk_add (t := 1) (len := 5) (p0 := 4) (p1 := 4) (by omega) (by omega) rfl rfl rfl (by omega) (by omega) (br_t rfl ?_)
  dsimp only
  have hs : ∀ c, c < 16 → upd (fun _ => (0 : Int32)) cell p2 c = if c = cell then p2 else 0 := fun c _ => rfl
  exact br_c (fun _ => lw_346 (a := a) (b := b) (v0 := nI cell + 16 * (p3 &&& 7)) ha hb hab hc hW1 hW (pg_v p3 hc) (Or.inl rfl) ⟨rfl, rfl, rfl, rfl, rfl, rfl, rfl, rfl, rfl, rfl, rfl, rfl, rfl, rfl, rfl, rfl, rfl, rfl, rfl, rfl, rfl, rfl, rfl, rfl, rfl, rfl, rfl, rfl, rfl, rfl, rfl, rfl, rfl, rfl, rfl, rfl, rfl, rfl, rfl, rfl, rfl, rfl, rfl⟩ hs hp) (fun _ => lw_346 (a := a) (b := b) (v0 := nI cell + 16 * (p3 &&& 7)) ha hb hab hc hW1 hW (pg_v p3 hc) (Or.inr rfl) ⟨rfl, rfl, rfl, rfl, rfl, rfl, rfl, rfl, rfl, rfl, rfl, rfl, rfl, rfl, rfl, rfl, rfl, rfl, rfl, rfl, rfl, rfl, rfl, rfl, rfl, rfl, rfl, rfl, rfl, rfl, rfl, rfl, rfl, rfl, rfl, rfl, rfl, rfl, rfl, rfl, rfl, rfl, rfl⟩ hs hp)
end
section
theorem i_vc (xs : Nat → Int32) (L : Nat) (hL : L ≤ 4) : wpL_law (fun r => r = 1) L xs := by
  unfold wpL_law
  exact lw_cell (i := 0) hL (by omega) (fun _ => lw_cell (i := 1) hL (by omega) (fun _ => lw_cell (i := 2) hL (by omega) (fun _ => lw_cell (i := 3) hL (by omega) (fun _ => ⟨27, 1198, by decide, by decide, lw_law rfl⟩))))
end
