section
/-- an array as a list; what lies behind the list's end is 0 -/
def ev_g : List Int32 → Nat → Int32
  | [], _ => 0
  | x :: _, 0 => x
  | _ :: L, k + 1 => ev_g L k
/-- a store -/
def ev_s : List Int32 → Nat → Int32 → List Int32
  | [], 0, v => [v]
  | [], k + 1, v => 0 :: ev_s [] k v
  | _ :: L, 0, v => v :: L
  | x :: L, k + 1, v => x :: ev_s L k v
theorem ev_g_s : ∀ (L : List Int32) (k : Nat) (v : Int32) (j : Nat), ev_g (ev_s L k v) j = if j = k then v else ev_g L j
  | [], 0, v, 0 => rfl
  | [], 0, v, j + 1 => rfl
  | [], k + 1, v, 0 => rfl
  | [], k + 1, v, j + 1 => by
    show ev_g (ev_s [] k v) j = _
    rw [ev_g_s [] k v j]
    by_cases e : j = k
    · rw [if_pos e, if_pos (by omega)]
    · rw [if_neg e, if_neg (by omega)]; rfl
  | x :: L, 0, v, 0 => rfl
  | x :: L, 0, v, j + 1 => rfl
  | x :: L, k + 1, v, 0 => rfl
  | x :: L, k + 1, v, j + 1 => by
    show ev_g (ev_s L k v) j = _
    rw [ev_g_s L k v j]
    by_cases e : j = k
    · rw [if_pos e, if_pos (by omega)]
    · rw [if_neg e, if_neg (by omega)]; rfl
theorem ev_us (L : List Int32) (k : Nat) (v : Int32) : upd (ev_g L) k v = ev_g (ev_s L k v) := by
  funext j
  rw [ev_g_s]; rfl
theorem ev_g0 : (fun _ => 0 : Nat → Int32) = ev_g [] := by
  funext j; rfl
/-- a place within an array -/
def ev_c (x : Int32) (n : Nat) : Bool := decide (0 ≤ x.toInt ∧ x.toInt < n)
theorem ev_ci {x : Int32} {n : Nat} (h : ev_c x n = true) : vp_in x n := vp_in_iff.mpr (of_decide_eq_true h)
theorem ev_if {c : Prop} [Decidable c] {a b : Bool} {A B : Prop} (h : (if c then a else b) = true) (f : c → a = true → A) (g : ¬ c → b = true → B) : (c → A) ∧ (¬ c → B) :=
  ⟨fun z => f z (by rw [if_pos z] at h; exact h), fun z => g z (by rw [if_neg z] at h; exact h)⟩
theorem ev_an {a b : Bool} {A : Prop} (h : (a && b) = true) (f : a = true → b = true → A) : A :=
  f (by cases a <;> simp_all) (by cases b <;> simp_all)
theorem ev_no {A : Prop} (h : false = true) : A := absurd h (by decide)
abbrev ev_K : Type := Int32 → Int32 → Int32 → Int32 → List Int32 → List Int32 → List Int32 → List Int32 → List Int32 → Bool
section
variable {n cp sd dp pc : Int32} {K F S T : List Int32} {a5 a11 a12 : Nat → Int32}
/-! write -/
def ev_write (op v : Int32) (k : ev_K) (ce ld ol ob : Int32) (A6 A7 A8 A9 A10 : List Int32) : Bool :=
  ev_c ce 560 && k (ce + 1) ld ol ob (ev_s A6 ce.toNatClampNeg op.toInt8.toInt32) (ev_s A7 ce.toNatClampNeg v) A8 A9 A10
theorem ev_write_ok {op v : Int32} {k : ev_K} {ce ld ol ob : Int32} {A6 A7 A8 A9 A10 : List Int32} {post : St2 → Prop} (h : ev_write op v k ce ld ol ob A6 A7 A8 A9 A10 = true) (hk : ∀ ce ld ol ob A6 A7 A8 A9 A10, k ce ld ol ob A6 A7 A8 A9 A10 = true → post (n, cp, sd, ce, ld, ol, ob, dp, pc, ev_g K, ev_g F, ev_g S, ev_g T, a5, ev_g A6, ev_g A7, ev_g A8, ev_g A9, ev_g A10, a11, a12)) : wpX_write post (n, cp, sd, ce, ld, ol, ob, dp, pc, ev_g K, ev_g F, ev_g S, ev_g T, a5, ev_g A6, ev_g A7, ev_g A8, ev_g A9, ev_g A10, a11, a12) op v :=
  ev_an h (fun hc h => ⟨ev_ci hc, nm_r (ev_us _ _ _) ⟨ev_ci hc, nm_r (ev_us _ _ _) (nm_e (hk _ _ _ _ _ _ _ _ _ h))⟩⟩)
/-! distance -/
def ev_dl (ld what : Int32) (A8 : List Int32) (k : Int32 → Bool) : Nat → Int32 → Bool
  | 0 => fun _ => false
  | f + 1 => fun x => if ld ≤ x then k (-1) else ev_c ((ld - 1) - x) 16 && (if ev_g A8 ((ld - 1) - x).toNatClampNeg = what then k x else ev_dl ld what A8 k f (x + 1))
theorem ev_dl_ok {what : Int32} {k : Int32 → Bool} {ce ld ol ob : Int32} {A6 A7 A8 A9 A10 : List Int32} {post : Int32 → Prop} (hk : ∀ r, k r = true → post r) : ∀ (f : Nat) (x : Int32), ev_dl ld what A8 k f x = true → wX_distance_2 post what n cp sd ce ld ol ob dp pc (ev_g K) (ev_g F) (ev_g S) (ev_g T) a5 (ev_g A6) (ev_g A7) (ev_g A8) (ev_g A9) (ev_g A10) a11 a12 f x
  | 0, _, h => ev_no h
  | f + 1, x, h => ev_if h (fun _ h => hk _ h) (fun _ h => ev_an h (fun hc h => ⟨ev_ci hc, ev_if h (fun _ h => hk _ h) (fun _ h => nm_e (ev_dl_ok hk f _ h))⟩))
def ev_dist (ld what : Int32) (A8 : List Int32) (k : Int32 → Bool) : Bool := ev_dl ld what A8 k 20 0
theorem ev_dist_ok {what : Int32} {k : Int32 → Bool} {ce ld ol ob : Int32} {A6 A7 A8 A9 A10 : List Int32} {post : Int32 → Prop} (h : ev_dist ld what A8 k = true) (hk : ∀ r, k r = true → post r) : wpX_distance post (n, cp, sd, ce, ld, ol, ob, dp, pc, ev_g K, ev_g F, ev_g S, ev_g T, a5, ev_g A6, ev_g A7, ev_g A8, ev_g A9, ev_g A10, a11, a12) what :=
  ⟨20, ev_dl_ok hk 20 0 h⟩
/-! pullUp -/
def ev_pl (what ld : Int32) (k : List Int32 → Bool) : Nat → Int32 → List Int32 → Bool
  | 0 => fun _ _ => false
  | f + 1 => fun x A8 => if ld - 1 ≤ x then ev_c (ld - 1) 16 && k (ev_s A8 (ld - 1).toNatClampNeg what.toInt8.toInt32) else ev_c (x + 1) 16 && (ev_c x 16 && ev_pl what ld k f (x + 1) (ev_s A8 x.toNatClampNeg (ev_g A8 (x + 1).toNatClampNeg).toInt8.toInt32))
theorem ev_pl_ok {what ce ld ol ob : Int32} {A6 A7 A9 A10 : List Int32} {k : List Int32 → Bool} {post : St2 → Prop} (hk : ∀ A8, k A8 = true → post (n, cp, sd, ce, ld, ol, ob, dp, pc, ev_g K, ev_g F, ev_g S, ev_g T, a5, ev_g A6, ev_g A7, ev_g A8, ev_g A9, ev_g A10, a11, a12)) : ∀ (f : Nat) (x : Int32) (A8 : List Int32), ev_pl what ld k f x A8 = true → wX_pullUp_26 post what n cp sd ce ld ol ob dp pc f x (ev_g K) (ev_g F) (ev_g S) (ev_g T) a5 (ev_g A6) (ev_g A7) (ev_g A8) (ev_g A9) (ev_g A10) a11 a12
  | 0, _, _, h => ev_no h
  | f + 1, x, A8, h => ev_if h (fun _ h => ev_an h (fun hc h => ⟨ev_ci hc, nm_r (ev_us _ _ _) (hk _ h)⟩)) (fun _ h => ev_an h (fun hc h => ⟨ev_ci hc, ev_an h (fun hd h => ⟨ev_ci hd, nm_r (by rw [vp_nar_byte, ev_us]) (nm_e (ev_pl_ok hk f _ _ h))⟩)⟩))
def ev_pu (what : Int32) (k : ev_K) (ce ld ol ob : Int32) (A6 A7 A8 A9 A10 : List Int32) : Bool :=
  ev_dist ld what A8 (fun r => if r ≤ 0 then ev_pl what ld (fun A8 => k ce ld ol ob A6 A7 A8 A9 A10) 20 ((ld - 1) - r) A8 else ev_write 7 r (fun ce ld ol ob A6 A7 A8 A9 A10 => ev_pl what ld (fun A8 => k ce ld ol ob A6 A7 A8 A9 A10) 20 ((ld - 1) - r) A8) ce ld ol ob A6 A7 A8 A9 A10)
theorem ev_pu_ok {what : Int32} {k : ev_K} {ce ld ol ob : Int32} {A6 A7 A8 A9 A10 : List Int32} {post : St2 → Prop} (h : ev_pu what k ce ld ol ob A6 A7 A8 A9 A10 = true) (hk : ∀ ce ld ol ob A6 A7 A8 A9 A10, k ce ld ol ob A6 A7 A8 A9 A10 = true → post (n, cp, sd, ce, ld, ol, ob, dp, pc, ev_g K, ev_g F, ev_g S, ev_g T, a5, ev_g A6, ev_g A7, ev_g A8, ev_g A9, ev_g A10, a11, a12)) : wpX_pullUp post (n, cp, sd, ce, ld, ol, ob, dp, pc, ev_g K, ev_g F, ev_g S, ev_g T, a5, ev_g A6, ev_g A7, ev_g A8, ev_g A9, ev_g A10, a11, a12) what :=
  ev_dist_ok h (fun r h => ev_if h (fun _ h => nm_e ⟨20, ev_pl_ok (fun _ h => hk _ _ _ _ _ _ _ _ _ h) 20 _ _ h⟩) (fun _ h => ev_write_ok h (fun ce ld ol ob A6 A7 A8 A9 A10 h => nm_e ⟨20, ev_pl_ok (fun _ h => hk _ _ _ _ _ _ _ _ _ h) 20 _ _ h⟩)))
/-! arrange -/
def ev_al (x1 : Int32) (k : ev_K) : Nat → Int32 → ev_K
  | 0 => fun _ _ _ _ _ _ _ _ _ _ => false
  | f + 1 => fun x3 ce ld ol ob A6 A7 A8 A9 A10 => if x1 ≤ x3 then k ce ld ol ob A6 A7 A8 A9 A10 else ev_pu x3 (fun ce ld ol ob A6 A7 A8 A9 A10 => ev_al x1 k f (x3 + 1) ce ld ol ob A6 A7 A8 A9 A10) ce ld ol ob A6 A7 A8 A9 A10
theorem ev_al_ok {x1 : Int32} {k : ev_K} {post : St2 → Prop} (hk : ∀ ce ld ol ob A6 A7 A8 A9 A10, k ce ld ol ob A6 A7 A8 A9 A10 = true → post (n, cp, sd, ce, ld, ol, ob, dp, pc, ev_g K, ev_g F, ev_g S, ev_g T, a5, ev_g A6, ev_g A7, ev_g A8, ev_g A9, ev_g A10, a11, a12)) : ∀ (f : Nat) (x3 : Int32) (ce ld ol ob : Int32) (A6 A7 A8 A9 A10 : List Int32), ev_al x1 k f x3 ce ld ol ob A6 A7 A8 A9 A10 = true → wX_arrange_33 post x1 f x3 n cp sd ce ld ol ob dp pc (ev_g K) (ev_g F) (ev_g S) (ev_g T) a5 (ev_g A6) (ev_g A7) (ev_g A8) (ev_g A9) (ev_g A10) a11 a12
  | 0, _, _, _, _, _, _, _, _, _, _, h => ev_no h
  | f + 1, x3, ce, ld, ol, ob, A6, A7, A8, A9, A10, h => ev_if h (fun _ h => hk _ _ _ _ _ _ _ _ _ h) (fun _ h => ev_pu_ok h (fun ce ld ol ob A6 A7 A8 A9 A10 h => nm_e (ev_al_ok hk f _ _ _ _ _ _ _ _ _ _ h)))
def ev_am (x1 : Int32) (A8 : List Int32) (k : Int32 → Bool) : Nat → Int32 → Bool
  | 0 => fun _ => false
  | f + 1 => fun x2 => if x1 ≤ x2 then k x2 else ev_c x2 16 && (if ev_g A8 x2.toNatClampNeg = x2 then ev_am x1 A8 k f (x2 + 1) else k x2)
theorem ev_am_ok {x1 : Int32} {k : Int32 → Bool} {ce ld ol ob : Int32} {A6 A7 A8 A9 A10 : List Int32} {post : St2 → Prop} (hk : ∀ x, k x = true → ∃ fu, wX_arrange_33 post x1 fu x n cp sd ce ld ol ob dp pc (ev_g K) (ev_g F) (ev_g S) (ev_g T) a5 (ev_g A6) (ev_g A7) (ev_g A8) (ev_g A9) (ev_g A10) a11 a12) : ∀ (f : Nat) (x2 : Int32), ev_am x1 A8 k f x2 = true → wX_arrange_10 post x1 n cp sd ce ld ol ob dp pc (ev_g K) (ev_g F) (ev_g S) (ev_g T) a5 (ev_g A6) (ev_g A7) (ev_g A8) (ev_g A9) (ev_g A10) a11 a12 f x2
  | 0, _, h => ev_no h
  | f + 1, x2, h => ev_if h (fun _ h => hk _ h) (fun _ h => ev_an h (fun hc h => ⟨ev_ci hc, ev_if h (fun _ h => nm_e (ev_am_ok hk f _ h)) (fun _ h => hk _ h)⟩))
def ev_ar (k : ev_K) (ce ld ol ob : Int32) (A6 A7 A8 A9 A10 : List Int32) : Bool := ev_am (6 + ol) A8 (fun x => ev_al (6 + ol) k 20 x ce ld ol ob A6 A7 A8 A9 A10) 20 0
theorem ev_ar_ok {k : ev_K} {ce ld ol ob : Int32} {A6 A7 A8 A9 A10 : List Int32} {post : St2 → Prop} (h : ev_ar k ce ld ol ob A6 A7 A8 A9 A10 = true) (hk : ∀ ce ld ol ob A6 A7 A8 A9 A10, k ce ld ol ob A6 A7 A8 A9 A10 = true → post (n, cp, sd, ce, ld, ol, ob, dp, pc, ev_g K, ev_g F, ev_g S, ev_g T, a5, ev_g A6, ev_g A7, ev_g A8, ev_g A9, ev_g A10, a11, a12)) : wpX_arrange post (n, cp, sd, ce, ld, ol, ob, dp, pc, ev_g K, ev_g F, ev_g S, ev_g T, a5, ev_g A6, ev_g A7, ev_g A8, ev_g A9, ev_g A10, a11, a12) :=
  nm_e ⟨20, ev_am_ok (fun x h => ⟨20, ev_al_ok hk 20 x _ _ _ _ _ _ _ _ _ h⟩) 20 0 h⟩
/-! isBoundary, writes, pushLayout, reads, wantedAfter -/
def ev_ib (n : Int32) (K : List Int32) (i : Int32) (k : Int32 → Bool) : Bool := if n ≤ i then k 1 else ev_c i 40 && (if ev_g K i.toNatClampNeg < 8 then k 0 else k 1)
theorem ev_ib_ok {i : Int32} {k : Int32 → Bool} {ce ld ol ob : Int32} {A6 A7 A8 A9 A10 : List Int32} {post : Int32 → Prop} (h : ev_ib n K i k = true) (hk : ∀ r, k r = true → post r) : wpX_isBoundary post (n, cp, sd, ce, ld, ol, ob, dp, pc, ev_g K, ev_g F, ev_g S, ev_g T, a5, ev_g A6, ev_g A7, ev_g A8, ev_g A9, ev_g A10, a11, a12) i :=
  ev_if h (fun _ h => hk _ h) (fun _ h => ev_an h (fun hc h => ⟨ev_ci hc, ev_if h (fun _ h => hk _ h) (fun _ h => hk _ h)⟩))
def ev_wr (K F S : List Int32) (i : Int32) (k : Int32 → Bool) : Bool := ev_c i 40 && (if ev_g K i.toNatClampNeg = 0 then ev_c i 40 && k (ev_g S i.toNatClampNeg) else if 6 < ev_g K i.toNatClampNeg then k (-1) else ev_c i 40 && k (ev_g F i.toNatClampNeg))
theorem ev_wr_ok {i : Int32} {k : Int32 → Bool} {ce ld ol ob : Int32} {A6 A7 A8 A9 A10 : List Int32} {post : Int32 → Prop} (h : ev_wr K F S i k = true) (hk : ∀ r, k r = true → post r) : wpX_writes post (n, cp, sd, ce, ld, ol, ob, dp, pc, ev_g K, ev_g F, ev_g S, ev_g T, a5, ev_g A6, ev_g A7, ev_g A8, ev_g A9, ev_g A10, a11, a12) i :=
  ev_an h (fun hc h => ⟨ev_ci hc, nm_e (ev_if h (fun _ h => ev_an h (fun hc h => ⟨ev_ci hc, hk _ h⟩)) (fun _ h => ev_if h (fun _ h => hk _ h) (fun _ h => ev_an h (fun hc h => ⟨ev_ci hc, hk _ h⟩))))⟩)
def ev_ph (what : Int32) (k : ev_K) (ce ld ol ob : Int32) (A6 A7 A8 A9 A10 : List Int32) : Bool := ev_c ld 16 && k ce (ld + 1) ol ob A6 A7 (ev_s A8 ld.toNatClampNeg what.toInt8.toInt32) A9 A10
theorem ev_ph_ok {what : Int32} {k : ev_K} {ce ld ol ob : Int32} {A6 A7 A8 A9 A10 : List Int32} {post : St2 → Prop} (h : ev_ph what k ce ld ol ob A6 A7 A8 A9 A10 = true) (hk : ∀ ce ld ol ob A6 A7 A8 A9 A10, k ce ld ol ob A6 A7 A8 A9 A10 = true → post (n, cp, sd, ce, ld, ol, ob, dp, pc, ev_g K, ev_g F, ev_g S, ev_g T, a5, ev_g A6, ev_g A7, ev_g A8, ev_g A9, ev_g A10, a11, a12)) : wpX_pushLayout post (n, cp, sd, ce, ld, ol, ob, dp, pc, ev_g K, ev_g F, ev_g S, ev_g T, a5, ev_g A6, ev_g A7, ev_g A8, ev_g A9, ev_g A10, a11, a12) what :=
  ev_an h (fun hc h => ⟨ev_ci hc, nm_r (ev_us _ _ _) (nm_e (hk _ _ _ _ _ _ _ _ _ h))⟩)
def ev_r1 (F : List Int32) (i v : Int32) (k : Int32 → Bool) : Bool := ev_c i 40 && (if ev_g F i.toNatClampNeg = v then k 1 else k 0)
theorem ev_r1_ok {i v : Int32} {k : Int32 → Bool} {ce ld ol ob : Int32} {A6 A7 A8 A9 A10 : List Int32} {post : Int32 → Prop} (h : ev_r1 F i v k = true) (hk : ∀ r, k r = true → post r) : wX_reads_19 post i v n cp sd ce ld ol ob dp pc (ev_g K) (ev_g F) (ev_g S) (ev_g T) a5 (ev_g A6) (ev_g A7) (ev_g A8) (ev_g A9) (ev_g A10) a11 a12 :=
  ev_an h (fun hc h => ⟨ev_ci hc, ev_if h (fun _ h => hk _ h) (fun _ h => hk _ h)⟩)
def ev_rd (K F S T : List Int32) (i v : Int32) (k : Int32 → Bool) : Bool :=
  ev_c i 40 && (if ev_g K i.toNatClampNeg = 7 then ev_r1 F i v k else if ev_g K i.toNatClampNeg = 8 then ev_r1 F i v k else if ev_g K i.toNatClampNeg = 1 then ev_c i 40 && (if ev_g S i.toNatClampNeg = v then k 1 else k 0) else if ev_g K i.toNatClampNeg < 2 then k 0 else if 6 < ev_g K i.toNatClampNeg then k 0 else ev_c i 40 && (if ev_g S i.toNatClampNeg = v then k 1 else ev_c i 40 && (if ev_g T i.toNatClampNeg = v then k 1 else k 0)))
theorem ev_rd_ok {i v : Int32} {k : Int32 → Bool} {ce ld ol ob : Int32} {A6 A7 A8 A9 A10 : List Int32} {post : Int32 → Prop} (h : ev_rd K F S T i v k = true) (hk : ∀ r, k r = true → post r) : wpX_reads post (n, cp, sd, ce, ld, ol, ob, dp, pc, ev_g K, ev_g F, ev_g S, ev_g T, a5, ev_g A6, ev_g A7, ev_g A8, ev_g A9, ev_g A10, a11, a12) i v :=
  ev_an h (fun hc h => ⟨ev_ci hc, nm_e (ev_if h (fun _ h => ev_r1_ok h hk) (fun _ h => ev_if h (fun _ h => ev_r1_ok h hk) (fun _ h => ev_if h (fun _ h => ev_an h (fun hc h => ⟨ev_ci hc, ev_if h (fun _ h => hk _ h) (fun _ h => hk _ h)⟩)) (fun _ h => ev_if h (fun _ h => hk _ h) (fun _ h => ev_if h (fun _ h => hk _ h) (fun _ h => ev_an h (fun hc h => ⟨ev_ci hc, ev_if h (fun _ h => hk _ h) (fun _ h => ev_an h (fun hc h => ⟨ev_ci hc, ev_if h (fun _ h => hk _ h) (fun _ h => hk _ h)⟩))⟩)))))))⟩)
def ev_wl (n : Int32) (K F S T : List Int32) (v : Int32) (k : Int32 → Bool) : Nat → Int32 → Bool
  | 0 => fun _ => false
  | f + 1 => fun x => ev_ib n K x (fun r => if r = 0 then ev_rd K F S T x v (fun r => if r = 0 then ev_wr K F S x (fun r => if r = v then k 0 else ev_wl n K F S T v k f (x + 1)) else k 1) else k 1)
theorem ev_wl_ok {v : Int32} {k : Int32 → Bool} {ce ld ol ob : Int32} {A6 A7 A8 A9 A10 : List Int32} {post : Int32 → Prop} (hk : ∀ r, k r = true → post r) : ∀ (f : Nat) (x : Int32), ev_wl n K F S T v k f x = true → wX_wantedAfter_4 post v n cp sd ce ld ol ob dp pc (ev_g K) (ev_g F) (ev_g S) (ev_g T) a5 (ev_g A6) (ev_g A7) (ev_g A8) (ev_g A9) (ev_g A10) a11 a12 f x
  | 0, _, h => ev_no h
  | f + 1, x, h => by
    unfold ev_wl at h
    unfold wX_wantedAfter_4
    exact ev_ib_ok h (fun r h => ev_if h (fun _ h => ev_rd_ok h (fun r h => ev_if h (fun _ h => ev_wr_ok h (fun r h => ev_if h (fun _ h => hk _ h) (fun _ h => nm_e (ev_wl_ok hk f _ h)))) (fun _ h => hk _ h))) (fun _ h => hk _ h))
def ev_wa (n : Int32) (K F S T : List Int32) (i v : Int32) (k : Int32 → Bool) : Bool := ev_wl n K F S T v k 20 (i + 1)
theorem ev_wa_ok {i v : Int32} {k : Int32 → Bool} {ce ld ol ob : Int32} {A6 A7 A8 A9 A10 : List Int32} {post : Int32 → Prop} (h : ev_wa n K F S T i v k = true) (hk : ∀ r, k r = true → post r) : wpX_wantedAfter post (n, cp, sd, ce, ld, ol, ob, dp, pc, ev_g K, ev_g F, ev_g S, ev_g T, a5, ev_g A6, ev_g A7, ev_g A8, ev_g A9, ev_g A10, a11, a12) i v :=
  nm_e ⟨20, ev_wl_ok hk 20 _ h⟩
end
end
section
section
variable {n cp sd dp pc : Int32} {K F S T : List Int32} {a5 a11 a12 : Nat → Int32}
/-! fetch -/
def ev_f5 (v : Int32) (k : ev_K) (ce ld ol ob : Int32) (A6 A7 A8 A9 A10 : List Int32) : Bool := ev_dist ld v A8 (fun r => ev_write 1 r (fun ce ld ol ob A6 A7 A8 A9 A10 => ev_ph 9 (fun ce ld ol ob A6 A7 A8 A9 A10 => k ce ld ol ob A6 A7 A8 A9 A10) ce ld ol ob A6 A7 A8 A9 A10) ce ld ol ob A6 A7 A8 A9 A10)
theorem ev_f5_ok {v : Int32} {k : ev_K} {ce ld ol ob : Int32} {A6 A7 A8 A9 A10 : List Int32} {post : St2 → Prop} (h : ev_f5 v k ce ld ol ob A6 A7 A8 A9 A10 = true) (hk : ∀ ce ld ol ob A6 A7 A8 A9 A10, k ce ld ol ob A6 A7 A8 A9 A10 = true → post (n, cp, sd, ce, ld, ol, ob, dp, pc, ev_g K, ev_g F, ev_g S, ev_g T, a5, ev_g A6, ev_g A7, ev_g A8, ev_g A9, ev_g A10, a11, a12)) : wX_fetch_53 post v n cp sd ce ld ol ob dp pc (ev_g K) (ev_g F) (ev_g S) (ev_g T) a5 (ev_g A6) (ev_g A7) (ev_g A8) (ev_g A9) (ev_g A10) a11 a12 :=
  ev_dist_ok h (fun r h => ev_write_ok h (fun ce ld ol ob A6 A7 A8 A9 A10 h => ev_ph_ok h (fun ce ld ol ob A6 A7 A8 A9 A10 h => hk _ _ _ _ _ _ _ _ _ h)))
def ev_f2 (v again z : Int32) (k : ev_K) (ce ld ol ob : Int32) (A6 A7 A8 A9 A10 : List Int32) : Bool := if z = 0 then ev_f5 v k ce ld ol ob A6 A7 A8 A9 A10 else if again = 0 then ev_pu v (fun ce ld ol ob A6 A7 A8 A9 A10 => ev_c (ld - 1) 16 && k ce ld ol ob A6 A7 (ev_s A8 (ld - 1).toNatClampNeg 9) A9 A10) ce ld ol ob A6 A7 A8 A9 A10 else ev_f5 v k ce ld ol ob A6 A7 A8 A9 A10
theorem ev_f2_ok {v again z : Int32} {k : ev_K} {ce ld ol ob : Int32} {A6 A7 A8 A9 A10 : List Int32} {post : St2 → Prop} (h : ev_f2 v again z k ce ld ol ob A6 A7 A8 A9 A10 = true) (hk : ∀ ce ld ol ob A6 A7 A8 A9 A10, k ce ld ol ob A6 A7 A8 A9 A10 = true → post (n, cp, sd, ce, ld, ol, ob, dp, pc, ev_g K, ev_g F, ev_g S, ev_g T, a5, ev_g A6, ev_g A7, ev_g A8, ev_g A9, ev_g A10, a11, a12)) : wX_fetch_23 post v again z n cp sd ce ld ol ob dp pc (ev_g K) (ev_g F) (ev_g S) (ev_g T) a5 (ev_g A6) (ev_g A7) (ev_g A8) (ev_g A9) (ev_g A10) a11 a12 :=
  ev_if h (fun _ h => ev_f5_ok h hk) (fun _ h => ev_if h (fun _ h => ev_pu_ok h (fun ce ld ol ob A6 A7 A8 A9 A10 h => ev_an h (fun hc h => ⟨ev_ci hc, nm_r (ev_us _ _ _) (hk _ _ _ _ _ _ _ _ _ h)⟩))) (fun _ h => ev_f5_ok h hk))
def ev_fe (n : Int32) (K F S T : List Int32) (i v again : Int32) (k : ev_K) (ce ld ol ob : Int32) (A6 A7 A8 A9 A10 : List Int32) : Bool := ev_wr K F S i (fun r => if r = v then ev_f2 v again 1 k ce ld ol ob A6 A7 A8 A9 A10 else ev_wa n K F S T i v (fun r => if r = 0 then ev_f2 v again 1 k ce ld ol ob A6 A7 A8 A9 A10 else ev_f2 v again 0 k ce ld ol ob A6 A7 A8 A9 A10))
theorem ev_fe_ok {i v again : Int32} {k : ev_K} {ce ld ol ob : Int32} {A6 A7 A8 A9 A10 : List Int32} {post : St2 → Prop} (h : ev_fe n K F S T i v again k ce ld ol ob A6 A7 A8 A9 A10 = true) (hk : ∀ ce ld ol ob A6 A7 A8 A9 A10, k ce ld ol ob A6 A7 A8 A9 A10 = true → post (n, cp, sd, ce, ld, ol, ob, dp, pc, ev_g K, ev_g F, ev_g S, ev_g T, a5, ev_g A6, ev_g A7, ev_g A8, ev_g A9, ev_g A10, a11, a12)) : wpX_fetch post (n, cp, sd, ce, ld, ol, ob, dp, pc, ev_g K, ev_g F, ev_g S, ev_g T, a5, ev_g A6, ev_g A7, ev_g A8, ev_g A9, ev_g A10, a11, a12) i v again := by
  unfold ev_fe at h
  unfold wpX_fetch
  dsimp only
  exact ev_wr_ok h (fun r h => ev_if h (fun _ h => ev_f2_ok h hk) (fun _ h => ev_wa_ok h (fun r h => ev_if h (fun _ h => ev_f2_ok h hk) (fun _ h => ev_f2_ok h hk))))
/-! compileArithmetic -/
def ev_a6 (K : List Int32) (i : Int32) (k : ev_K) (ce ld ol ob : Int32) (A6 A7 A8 A9 A10 : List Int32) : Bool := ev_c i 40 && ev_write (ev_g K i.toNatClampNeg) 0 (fun ce ld ol ob A6 A7 A8 A9 A10 => k ce (ld - 1) ol ob A6 A7 A8 A9 A10) ce ld ol ob A6 A7 A8 A9 A10
theorem ev_a6_ok {i : Int32} {k : ev_K} {ce ld ol ob : Int32} {A6 A7 A8 A9 A10 : List Int32} {post : St2 → Prop} (h : ev_a6 K i k ce ld ol ob A6 A7 A8 A9 A10 = true) (hk : ∀ ce ld ol ob A6 A7 A8 A9 A10, k ce ld ol ob A6 A7 A8 A9 A10 = true → post (n, cp, sd, ce, ld, ol, ob, dp, pc, ev_g K, ev_g F, ev_g S, ev_g T, a5, ev_g A6, ev_g A7, ev_g A8, ev_g A9, ev_g A10, a11, a12)) : wX_compileArithmetic_65 post i n cp sd ce ld ol ob dp pc (ev_g K) (ev_g F) (ev_g S) (ev_g T) a5 (ev_g A6) (ev_g A7) (ev_g A8) (ev_g A9) (ev_g A10) a11 a12 :=
  ev_an h (fun hc h => ⟨ev_ci hc, ev_write_ok h (fun ce ld ol ob A6 A7 A8 A9 A10 h => nm_e (hk _ _ _ _ _ _ _ _ _ h))⟩)
def ev_a2 (n : Int32) (K F S T : List Int32) (i b c z0 z1 z2 : Int32) (k : ev_K) (ce ld ol ob : Int32) (A6 A7 A8 A9 A10 : List Int32) : Bool :=
  ev_fe n K F S T z2 z1 z0 (fun ce ld ol ob A6 A7 A8 A9 A10 => if b = c then ev_dist ld b A8 (fun r => ev_write 1 r (fun ce ld ol ob A6 A7 A8 A9 A10 => ev_ph 9 (fun ce ld ol ob A6 A7 A8 A9 A10 => ev_a6 K i k ce ld ol ob A6 A7 A8 A9 A10) ce ld ol ob A6 A7 A8 A9 A10) ce ld ol ob A6 A7 A8 A9 A10) else ev_fe n K F S T i c 0 (fun ce ld ol ob A6 A7 A8 A9 A10 => ev_a6 K i k ce ld ol ob A6 A7 A8 A9 A10) ce ld ol ob A6 A7 A8 A9 A10) ce ld ol ob A6 A7 A8 A9 A10
theorem ev_a2_ok {i b c z0 z1 z2 : Int32} {k : ev_K} {ce ld ol ob : Int32} {A6 A7 A8 A9 A10 : List Int32} {post : St2 → Prop} (h : ev_a2 n K F S T i b c z0 z1 z2 k ce ld ol ob A6 A7 A8 A9 A10 = true) (hk : ∀ ce ld ol ob A6 A7 A8 A9 A10, k ce ld ol ob A6 A7 A8 A9 A10 = true → post (n, cp, sd, ce, ld, ol, ob, dp, pc, ev_g K, ev_g F, ev_g S, ev_g T, a5, ev_g A6, ev_g A7, ev_g A8, ev_g A9, ev_g A10, a11, a12)) : wX_compileArithmetic_27 post i b c z0 z1 z2 n cp sd ce ld ol ob dp pc (ev_g K) (ev_g F) (ev_g S) (ev_g T) a5 (ev_g A6) (ev_g A7) (ev_g A8) (ev_g A9) (ev_g A10) a11 a12 :=
  ev_fe_ok h (fun ce ld ol ob A6 A7 A8 A9 A10 h => ev_if h (fun _ h => ev_dist_ok h (fun r h => ev_write_ok h (fun ce ld ol ob A6 A7 A8 A9 A10 h => ev_ph_ok h (fun ce ld ol ob A6 A7 A8 A9 A10 h => ev_a6_ok h hk)))) (fun _ h => ev_fe_ok h (fun ce ld ol ob A6 A7 A8 A9 A10 h => ev_a6_ok h hk)))
def ev_ca (n : Int32) (K F S T : List Int32) (i : Int32) (k : ev_K) (ce ld ol ob : Int32) (A6 A7 A8 A9 A10 : List Int32) : Bool := ev_c i 40 && (ev_c i 40 && (if ev_g S i.toNatClampNeg = ev_g T i.toNatClampNeg then ev_a2 n K F S T i (ev_g S i.toNatClampNeg) (ev_g T i.toNatClampNeg) 1 (ev_g S i.toNatClampNeg) i k ce ld ol ob A6 A7 A8 A9 A10 else ev_a2 n K F S T i (ev_g S i.toNatClampNeg) (ev_g T i.toNatClampNeg) 0 (ev_g S i.toNatClampNeg) i k ce ld ol ob A6 A7 A8 A9 A10))
theorem ev_ca_ok {i : Int32} {k : ev_K} {ce ld ol ob : Int32} {A6 A7 A8 A9 A10 : List Int32} {post : St2 → Prop} (h : ev_ca n K F S T i k ce ld ol ob A6 A7 A8 A9 A10 = true) (hk : ∀ ce ld ol ob A6 A7 A8 A9 A10, k ce ld ol ob A6 A7 A8 A9 A10 = true → post (n, cp, sd, ce, ld, ol, ob, dp, pc, ev_g K, ev_g F, ev_g S, ev_g T, a5, ev_g A6, ev_g A7, ev_g A8, ev_g A9, ev_g A10, a11, a12)) : wpX_compileArithmetic post (n, cp, sd, ce, ld, ol, ob, dp, pc, ev_g K, ev_g F, ev_g S, ev_g T, a5, ev_g A6, ev_g A7, ev_g A8, ev_g A9, ev_g A10, a11, a12) i :=
  ev_an h (fun hc h => ⟨ev_ci hc, nm_e (ev_an h (fun hd h => ⟨ev_ci hd, nm_e (ev_if h (fun _ h => ev_a2_ok h hk) (fun _ h => ev_a2_ok h hk))⟩))⟩)
/-! settle -/
def ev_s3 (v : Int32) (k : ev_K) (ce ld ol ob : Int32) (A6 A7 A8 A9 A10 : List Int32) : Bool := ev_c (ld - 1) 16 && k ce ld ol ob A6 A7 (ev_s A8 (ld - 1).toNatClampNeg v.toInt8.toInt32) A9 A10
theorem ev_s3_ok {v : Int32} {k : ev_K} {ce ld ol ob : Int32} {A6 A7 A8 A9 A10 : List Int32} {post : St2 → Prop} (h : ev_s3 v k ce ld ol ob A6 A7 A8 A9 A10 = true) (hk : ∀ ce ld ol ob A6 A7 A8 A9 A10, k ce ld ol ob A6 A7 A8 A9 A10 = true → post (n, cp, sd, ce, ld, ol, ob, dp, pc, ev_g K, ev_g F, ev_g S, ev_g T, a5, ev_g A6, ev_g A7, ev_g A8, ev_g A9, ev_g A10, a11, a12)) : wX_settle_30 post v n cp sd ce ld ol ob dp pc (ev_g K) (ev_g F) (ev_g S) (ev_g T) a5 (ev_g A6) (ev_g A7) (ev_g A8) (ev_g A9) (ev_g A10) a11 a12 :=
  ev_an h (fun hc h => ⟨ev_ci hc, nm_r (ev_us _ _ _) (hk _ _ _ _ _ _ _ _ _ h)⟩)
def ev_se (v : Int32) (k : ev_K) (ce ld ol ob : Int32) (A6 A7 A8 A9 A10 : List Int32) : Bool := ev_dist ld v A8 (fun r => if r < 0 then ev_s3 v k ce ld ol ob A6 A7 A8 A9 A10 else ev_pu v (fun ce ld ol ob A6 A7 A8 A9 A10 => ev_write 8 0 (fun ce ld ol ob A6 A7 A8 A9 A10 => ev_s3 v k ce (ld - 1) ol ob A6 A7 A8 A9 A10) ce ld ol ob A6 A7 A8 A9 A10) ce ld ol ob A6 A7 A8 A9 A10)
theorem ev_se_ok {v : Int32} {k : ev_K} {ce ld ol ob : Int32} {A6 A7 A8 A9 A10 : List Int32} {post : St2 → Prop} (h : ev_se v k ce ld ol ob A6 A7 A8 A9 A10 = true) (hk : ∀ ce ld ol ob A6 A7 A8 A9 A10, k ce ld ol ob A6 A7 A8 A9 A10 = true → post (n, cp, sd, ce, ld, ol, ob, dp, pc, ev_g K, ev_g F, ev_g S, ev_g T, a5, ev_g A6, ev_g A7, ev_g A8, ev_g A9, ev_g A10, a11, a12)) : wpX_settle post (n, cp, sd, ce, ld, ol, ob, dp, pc, ev_g K, ev_g F, ev_g S, ev_g T, a5, ev_g A6, ev_g A7, ev_g A8, ev_g A9, ev_g A10, a11, a12) v :=
  ev_dist_ok h (fun r h => ev_if h (fun _ h => ev_s3_ok h hk) (fun _ h => ev_pu_ok h (fun ce ld ol ob A6 A7 A8 A9 A10 h => ev_write_ok h (fun ce ld ol ob A6 A7 A8 A9 A10 h => nm_e (ev_s3_ok h hk)))))
/-! compileStraight -/
def ev_c9 (K F S : List Int32) (i : Int32) (k : ev_K) (ce ld ol ob : Int32) (A6 A7 A8 A9 A10 : List Int32) : Bool := ev_wr K F S i (fun r => ev_se r (fun ce ld ol ob A6 A7 A8 A9 A10 => k ce ld ol ob A6 A7 A8 A9 A10) ce ld ol ob A6 A7 A8 A9 A10)
theorem ev_c9_ok {i : Int32} {k : ev_K} {ce ld ol ob : Int32} {A6 A7 A8 A9 A10 : List Int32} {post : St2 → Prop} (h : ev_c9 K F S i k ce ld ol ob A6 A7 A8 A9 A10 = true) (hk : ∀ ce ld ol ob A6 A7 A8 A9 A10, k ce ld ol ob A6 A7 A8 A9 A10 = true → post (n, cp, sd, ce, ld, ol, ob, dp, pc, ev_g K, ev_g F, ev_g S, ev_g T, a5, ev_g A6, ev_g A7, ev_g A8, ev_g A9, ev_g A10, a11, a12)) : wX_compileStraight_92 post i n cp sd ce ld ol ob dp pc (ev_g K) (ev_g F) (ev_g S) (ev_g T) a5 (ev_g A6) (ev_g A7) (ev_g A8) (ev_g A9) (ev_g A10) a11 a12 :=
  ev_wr_ok h (fun r h => ev_se_ok h (fun ce ld ol ob A6 A7 A8 A9 A10 h => hk _ _ _ _ _ _ _ _ _ h))
def ev_cs (n : Int32) (K F S T : List Int32) (i : Int32) (k : ev_K) (ce ld ol ob : Int32) (A6 A7 A8 A9 A10 : List Int32) : Bool :=
  ev_c i 40 && (if ev_g K i.toNatClampNeg = 7 then ev_c i 40 && ev_fe n K F S T i (ev_g F i.toNatClampNeg) 0 (fun ce ld ol ob A6 A7 A8 A9 A10 => ev_write 9 0 (fun ce ld ol ob A6 A7 A8 A9 A10 => k ce (ld - 1) ol ob A6 A7 A8 A9 A10) ce ld ol ob A6 A7 A8 A9 A10) ce ld ol ob A6 A7 A8 A9 A10
    else if ev_g K i.toNatClampNeg = 0 then ev_c i 40 && ev_write 0 (ev_g F i.toNatClampNeg) (fun ce ld ol ob A6 A7 A8 A9 A10 => ev_ph 9 (fun ce ld ol ob A6 A7 A8 A9 A10 => ev_c9 K F S i k ce ld ol ob A6 A7 A8 A9 A10) ce ld ol ob A6 A7 A8 A9 A10) ce ld ol ob A6 A7 A8 A9 A10
    else if ev_g K i.toNatClampNeg = 1 then ev_c i 40 && ev_fe n K F S T i (ev_g S i.toNatClampNeg) 0 (fun ce ld ol ob A6 A7 A8 A9 A10 => ev_c9 K F S i k ce ld ol ob A6 A7 A8 A9 A10) ce ld ol ob A6 A7 A8 A9 A10
    else ev_ca n K F S T i (fun ce ld ol ob A6 A7 A8 A9 A10 => ev_c9 K F S i k ce ld ol ob A6 A7 A8 A9 A10) ce ld ol ob A6 A7 A8 A9 A10)
theorem ev_cs_ok {i : Int32} {k : ev_K} {ce ld ol ob : Int32} {A6 A7 A8 A9 A10 : List Int32} {post : St2 → Prop} (h : ev_cs n K F S T i k ce ld ol ob A6 A7 A8 A9 A10 = true) (hk : ∀ ce ld ol ob A6 A7 A8 A9 A10, k ce ld ol ob A6 A7 A8 A9 A10 = true → post (n, cp, sd, ce, ld, ol, ob, dp, pc, ev_g K, ev_g F, ev_g S, ev_g T, a5, ev_g A6, ev_g A7, ev_g A8, ev_g A9, ev_g A10, a11, a12)) : wpX_compileStraight post (n, cp, sd, ce, ld, ol, ob, dp, pc, ev_g K, ev_g F, ev_g S, ev_g T, a5, ev_g A6, ev_g A7, ev_g A8, ev_g A9, ev_g A10, a11, a12) i :=
  ev_an h (fun hc h => ⟨ev_ci hc, nm_e (ev_if h (fun _ h => ev_an h (fun hc h => ⟨ev_ci hc, ev_fe_ok h (fun ce ld ol ob A6 A7 A8 A9 A10 h => ev_write_ok h (fun ce ld ol ob A6 A7 A8 A9 A10 h => nm_e (hk _ _ _ _ _ _ _ _ _ h)))⟩))
    (fun _ h => ev_if h (fun _ h => ev_an h (fun hc h => ⟨ev_ci hc, ev_write_ok h (fun ce ld ol ob A6 A7 A8 A9 A10 h => ev_ph_ok h (fun ce ld ol ob A6 A7 A8 A9 A10 h => ev_c9_ok h hk))⟩))
    (fun _ h => ev_if h (fun _ h => ev_an h (fun hc h => ⟨ev_ci hc, ev_fe_ok h (fun ce ld ol ob A6 A7 A8 A9 A10 h => ev_c9_ok h hk)⟩))
    (fun _ h => ev_ca_ok h (fun ce ld ol ob A6 A7 A8 A9 A10 h => ev_c9_ok h hk)))))⟩)
/-! closeBlock, openBlock -/
def ev_cl1 (x1 : Int32) (k : ev_K) (ce ld ol ob : Int32) (A6 A7 A8 A9 A10 : List Int32) : Bool :=
  ev_write 0 (-1) (fun ce ld ol ob A6 A7 A8 A9 A10 => ev_write 2 0 (fun ce ld ol ob A6 A7 A8 A9 A10 => ev_write 11 (x1 - 1) (fun ce ld ol ob A6 A7 A8 A9 A10 => ev_c x1 560 && ev_write 8 0 (fun ce ld ol ob A6 A7 A8 A9 A10 => k ce (ld - 1) (ol - 1) ob A6 A7 A8 A9 A10) ce ld ol ob A6 (ev_s A7 x1.toNatClampNeg ce) A8 A9 A10) ce ld ol ob A6 A7 A8 A9 A10) ce ld ol ob A6 A7 A8 A9 A10) ce ld ol ob A6 A7 A8 A9 A10
def ev_cl (k : ev_K) (ce ld ol ob : Int32) (A6 A7 A8 A9 A10 : List Int32) : Bool :=
  ev_c (ob - 1) 4 && (ev_c (ob - 1) 4 && (if ev_g A9 (ob - 1).toNatClampNeg = 10 then ev_cl1 (ev_g A10 (ob - 1).toNatClampNeg) k ce ld ol (ob - 1) A6 A7 A8 A9 A10 else ev_c (ev_g A10 (ob - 1).toNatClampNeg) 560 && k ce ld ol (ob - 1) A6 (ev_s A7 (ev_g A10 (ob - 1).toNatClampNeg).toNatClampNeg ce) A8 A9 A10))
theorem ev_cl_ok {k : ev_K} {ce ld ol ob : Int32} {A6 A7 A8 A9 A10 : List Int32} {post : St2 → Prop} (h : ev_cl k ce ld ol ob A6 A7 A8 A9 A10 = true) (hk : ∀ ce ld ol ob A6 A7 A8 A9 A10, k ce ld ol ob A6 A7 A8 A9 A10 = true → post (n, cp, sd, ce, ld, ol, ob, dp, pc, ev_g K, ev_g F, ev_g S, ev_g T, a5, ev_g A6, ev_g A7, ev_g A8, ev_g A9, ev_g A10, a11, a12)) : wpX_closeBlock post (n, cp, sd, ce, ld, ol, ob, dp, pc, ev_g K, ev_g F, ev_g S, ev_g T, a5, ev_g A6, ev_g A7, ev_g A8, ev_g A9, ev_g A10, a11, a12) :=
  nm_e (ev_an h (fun hc h => ⟨ev_ci hc, nm_e (ev_an h (fun hd h => ⟨ev_ci hd, ev_if h (fun _ h => ev_write_ok h (fun ce ld ol ob A6 A7 A8 A9 A10 h => ev_write_ok h (fun ce ld ol ob A6 A7 A8 A9 A10 h => ev_write_ok h (fun ce ld ol ob A6 A7 A8 A9 A10 h => ev_an h (fun hc h => ⟨ev_ci hc, nm_r (ev_us _ _ _) (ev_write_ok h (fun ce ld ol ob A6 A7 A8 A9 A10 h => nm_e (nm_e (hk _ _ _ _ _ _ _ _ _ h))))⟩)))))
    (fun _ h => ev_an h (fun hc h => ⟨ev_ci hc, nm_r (ev_us _ _ _) (hk _ _ _ _ _ _ _ _ _ h)⟩))⟩))⟩))
def ev_ob (kd : Int32) (k : ev_K) (ce ld ol ob : Int32) (A6 A7 A8 A9 A10 : List Int32) : Bool := ev_c ob 4 && (ev_c ob 4 && k ce ld ol (ob + 1) A6 A7 A8 (ev_s A9 ob.toNatClampNeg kd.toInt8.toInt32) (ev_s A10 ob.toNatClampNeg ce.toInt16.toInt32))
theorem ev_ob_ok {kd : Int32} {k : ev_K} {ce ld ol ob : Int32} {A6 A7 A8 A9 A10 : List Int32} {post : St2 → Prop} (h : ev_ob kd k ce ld ol ob A6 A7 A8 A9 A10 = true) (hk : ∀ ce ld ol ob A6 A7 A8 A9 A10, k ce ld ol ob A6 A7 A8 A9 A10 = true → post (n, cp, sd, ce, ld, ol, ob, dp, pc, ev_g K, ev_g F, ev_g S, ev_g T, a5, ev_g A6, ev_g A7, ev_g A8, ev_g A9, ev_g A10, a11, a12)) : wpX_openBlock post (n, cp, sd, ce, ld, ol, ob, dp, pc, ev_g K, ev_g F, ev_g S, ev_g T, a5, ev_g A6, ev_g A7, ev_g A8, ev_g A9, ev_g A10, a11, a12) kd :=
  ev_an h (fun hc h => ⟨ev_ci hc, nm_r (ev_us _ _ _) (ev_an h (fun hc h => ⟨ev_ci hc, nm_r (ev_us _ _ _) (nm_e (hk _ _ _ _ _ _ _ _ _ h))⟩))⟩)
/-! compileBoundary -/
def ev_b8 (F : List Int32) (i : Int32) (k : ev_K) (ce ld ol ob : Int32) (A6 A7 A8 A9 A10 : List Int32) : Bool := ev_c i 40 && ev_dist ld (ev_g F i.toNatClampNeg) A8 (fun r => ev_write 1 r (fun ce ld ol ob A6 A7 A8 A9 A10 => ev_ob 8 (fun ce ld ol ob A6 A7 A8 A9 A10 => ev_write 10 0 (fun ce ld ol ob A6 A7 A8 A9 A10 => k ce ld ol ob A6 A7 A8 A9 A10) ce ld ol ob A6 A7 A8 A9 A10) ce ld ol ob A6 A7 A8 A9 A10) ce ld ol ob A6 A7 A8 A9 A10)
def ev_b10 (F : List Int32) (i : Int32) (k : ev_K) (ce ld ol ob : Int32) (A6 A7 A8 A9 A10 : List Int32) : Bool := ev_c i 40 && ev_write 0 (ev_g F i.toNatClampNeg) (fun ce ld ol ob A6 A7 A8 A9 A10 => ev_ph (6 + ol) (fun ce ld ol ob A6 A7 A8 A9 A10 => ev_write 1 0 (fun ce ld ol ob A6 A7 A8 A9 A10 => ev_ob 10 (fun ce ld ol ob A6 A7 A8 A9 A10 => ev_write 10 0 (fun ce ld ol ob A6 A7 A8 A9 A10 => k ce ld ol ob A6 A7 A8 A9 A10) ce ld ol ob A6 A7 A8 A9 A10) ce ld ol ob A6 A7 A8 A9 A10) ce ld (ol + 1) ob A6 A7 A8 A9 A10) ce ld ol ob A6 A7 A8 A9 A10) ce ld ol ob A6 A7 A8 A9 A10
def ev_b9a (x3 : Int32) (k : ev_K) (ce ld ol ob : Int32) (A6 A7 A8 A9 A10 : List Int32) : Bool := ev_write 11 0 (fun ce ld ol ob A6 A7 A8 A9 A10 => ev_c x3 560 && k ce ld ol ob A6 (ev_s A7 x3.toNatClampNeg ce) A8 A9 A10) ce ld ol ob A6 A7 A8 A9 A10
def ev_b9 (k : ev_K) (ce ld ol ob : Int32) (A6 A7 A8 A9 A10 : List Int32) : Bool := ev_c (ob - 1) 4 && (ev_c (ob - 1) 4 && ev_b9a (ev_g A10 (ob - 1).toNatClampNeg) k ce ld ol ob A6 A7 A8 A9 (ev_s A10 (ob - 1).toNatClampNeg ce.toInt16.toInt32))
def ev_cb (K F : List Int32) (i : Int32) (k : ev_K) (ce ld ol ob : Int32) (A6 A7 A8 A9 A10 : List Int32) : Bool :=
  ev_c i 40 && ev_ar (fun ce ld ol ob A6 A7 A8 A9 A10 => if ev_g K i.toNatClampNeg = 8 then ev_b8 F i k ce ld ol ob A6 A7 A8 A9 A10 else if ev_g K i.toNatClampNeg = 10 then ev_b10 F i k ce ld ol ob A6 A7 A8 A9 A10 else if ev_g K i.toNatClampNeg = 9 then ev_b9 k ce ld ol ob A6 A7 A8 A9 A10 else ev_cl (fun ce ld ol ob A6 A7 A8 A9 A10 => k ce ld ol ob A6 A7 A8 A9 A10) ce ld ol ob A6 A7 A8 A9 A10) ce ld ol ob A6 A7 A8 A9 A10
theorem ev_cb_ok {i : Int32} {k : ev_K} {ce ld ol ob : Int32} {A6 A7 A8 A9 A10 : List Int32} {post : St2 → Prop} (h : ev_cb K F i k ce ld ol ob A6 A7 A8 A9 A10 = true) (hk : ∀ ce ld ol ob A6 A7 A8 A9 A10, k ce ld ol ob A6 A7 A8 A9 A10 = true → post (n, cp, sd, ce, ld, ol, ob, dp, pc, ev_g K, ev_g F, ev_g S, ev_g T, a5, ev_g A6, ev_g A7, ev_g A8, ev_g A9, ev_g A10, a11, a12)) : wpX_compileBoundary post (n, cp, sd, ce, ld, ol, ob, dp, pc, ev_g K, ev_g F, ev_g S, ev_g T, a5, ev_g A6, ev_g A7, ev_g A8, ev_g A9, ev_g A10, a11, a12) i :=
  ev_an h (fun hc h => ⟨ev_ci hc, nm_e (ev_ar_ok h (fun ce ld ol ob A6 A7 A8 A9 A10 h => ev_if h
    (fun _ h => ev_an h (fun hc h => ⟨ev_ci hc, ev_dist_ok h (fun r h => ev_write_ok h (fun ce ld ol ob A6 A7 A8 A9 A10 h => ev_ob_ok h (fun ce ld ol ob A6 A7 A8 A9 A10 h => ev_write_ok h (fun ce ld ol ob A6 A7 A8 A9 A10 h => hk _ _ _ _ _ _ _ _ _ h))))⟩))
    (fun _ h => ev_if h
      (fun _ h => ev_an h (fun hc h => ⟨ev_ci hc, ev_write_ok h (fun ce ld ol ob A6 A7 A8 A9 A10 h => ev_ph_ok h (fun ce ld ol ob A6 A7 A8 A9 A10 h => nm_e (ev_write_ok h (fun ce ld ol ob A6 A7 A8 A9 A10 h => ev_ob_ok h (fun ce ld ol ob A6 A7 A8 A9 A10 h => ev_write_ok h (fun ce ld ol ob A6 A7 A8 A9 A10 h => hk _ _ _ _ _ _ _ _ _ h))))))⟩))
      (fun _ h => ev_if h
        (fun _ h => ev_an h (fun hc h => ⟨ev_ci hc, nm_e (ev_an h (fun hd h => ⟨ev_ci hd, nm_r (ev_us _ _ _) (ev_write_ok h (fun ce ld ol ob A6 A7 A8 A9 A10 h => ev_an h (fun hc h => ⟨ev_ci hc, nm_r (ev_us _ _ _) (hk _ _ _ _ _ _ _ _ _ h)⟩)))⟩))⟩))
        (fun _ h => ev_cl_ok h (fun ce ld ol ob A6 A7 A8 A9 A10 h => hk _ _ _ _ _ _ _ _ _ h))))))⟩)
/-! compile -/
def ev_l7 (n : Int32) (K F S T : List Int32) (k : ev_K) : Nat → Int32 → ev_K
  | 0 => fun _ _ _ _ _ _ _ _ _ _ => false
  | f + 1 => fun x ce ld ol ob A6 A7 A8 A9 A10 => if n ≤ x then ev_ar (fun ce ld ol ob A6 A7 A8 A9 A10 => k ce ld ol ob A6 A7 A8 A9 A10) ce ld ol ob A6 A7 A8 A9 A10 else ev_ib n K x (fun r => if r = 0 then ev_cs n K F S T x (fun ce ld ol ob A6 A7 A8 A9 A10 => ev_l7 n K F S T k f (x + 1) ce ld ol ob A6 A7 A8 A9 A10) ce ld ol ob A6 A7 A8 A9 A10 else ev_cb K F x (fun ce ld ol ob A6 A7 A8 A9 A10 => ev_l7 n K F S T k f (x + 1) ce ld ol ob A6 A7 A8 A9 A10) ce ld ol ob A6 A7 A8 A9 A10)
theorem ev_l7_ok {k : ev_K} {post : St2 → Prop} (hk : ∀ ce ld ol ob A6 A7 A8 A9 A10, k ce ld ol ob A6 A7 A8 A9 A10 = true → post (n, cp, sd, ce, ld, ol, ob, dp, pc, ev_g K, ev_g F, ev_g S, ev_g T, a5, ev_g A6, ev_g A7, ev_g A8, ev_g A9, ev_g A10, a11, a12)) : ∀ (f : Nat) (x : Int32) (ce ld ol ob : Int32) (A6 A7 A8 A9 A10 : List Int32), ev_l7 n K F S T k f x ce ld ol ob A6 A7 A8 A9 A10 = true → wX_compile_70 post f x n cp sd ce ld ol ob dp pc (ev_g K) (ev_g F) (ev_g S) (ev_g T) a5 (ev_g A6) (ev_g A7) (ev_g A8) (ev_g A9) (ev_g A10) a11 a12
  | 0, _, _, _, _, _, _, _, _, _, _, h => ev_no h
  | f + 1, x, ce, ld, ol, ob, A6, A7, A8, A9, A10, h => ev_if h (fun _ h => ev_ar_ok h (fun ce ld ol ob A6 A7 A8 A9 A10 h => hk _ _ _ _ _ _ _ _ _ h)) (fun _ h => ev_ib_ok h (fun r h => ev_if h (fun _ h => ev_cs_ok h (fun ce ld ol ob A6 A7 A8 A9 A10 h => nm_e (ev_l7_ok hk f _ _ _ _ _ _ _ _ _ _ h))) (fun _ h => ev_cb_ok h (fun ce ld ol ob A6 A7 A8 A9 A10 h => nm_e (ev_l7_ok hk f _ _ _ _ _ _ _ _ _ _ h)))))
def ev_l5 (n : Int32) (K F S T : List Int32) (k : ev_K) : Nat → Int32 → ev_K
  | 0 => fun _ _ _ _ _ _ _ _ _ _ => false
  | f + 1 => fun x ce ld ol ob A6 A7 A8 A9 A10 => if 6 ≤ x then ev_l7 n K F S T k 20 0 ce ld ol ob A6 A7 A8 A9 A10 else ev_ph x (fun ce ld ol ob A6 A7 A8 A9 A10 => ev_l5 n K F S T k f (x + 1) ce ld ol ob A6 A7 A8 A9 A10) ce ld ol ob A6 A7 A8 A9 A10
theorem ev_l5_ok {k : ev_K} {post : St2 → Prop} (hk : ∀ ce ld ol ob A6 A7 A8 A9 A10, k ce ld ol ob A6 A7 A8 A9 A10 = true → post (n, cp, sd, ce, ld, ol, ob, dp, pc, ev_g K, ev_g F, ev_g S, ev_g T, a5, ev_g A6, ev_g A7, ev_g A8, ev_g A9, ev_g A10, a11, a12)) : ∀ (f : Nat) (x : Int32) (ce ld ol ob : Int32) (A6 A7 A8 A9 A10 : List Int32), ev_l5 n K F S T k f x ce ld ol ob A6 A7 A8 A9 A10 = true → wX_compile_51 post f x n cp sd ce ld ol ob dp pc (ev_g K) (ev_g F) (ev_g S) (ev_g T) a5 (ev_g A6) (ev_g A7) (ev_g A8) (ev_g A9) (ev_g A10) a11 a12
  | 0, _, _, _, _, _, _, _, _, _, _, h => ev_no h
  | f + 1, x, ce, ld, ol, ob, A6, A7, A8, A9, A10, h => ev_if h (fun _ h => ⟨20, ev_l7_ok hk 20 0 _ _ _ _ _ _ _ _ _ h⟩) (fun _ h => ev_ph_ok h (fun ce ld ol ob A6 A7 A8 A9 A10 h => nm_e (ev_l5_ok hk f _ _ _ _ _ _ _ _ _ _ h)))
/-! blocksFit -/
def ev_bf (n : Int32) (K : List Int32) (k : Int32 → List Int32 → Bool) : Nat → Int32 → Int32 → List Int32 → Bool
  | 0 => fun _ _ _ => false
  | f + 1 => fun x1 x2 A9 => if n ≤ x2 then (if x1 = 0 then k 1 A9 else k 0 A9) else ev_c x2 40 &&
    (if ev_g K x2.toNatClampNeg = 8 then (if x1 = 3 then k 0 A9 else ev_c x1 4 && ev_bf n K k f (x1 + 1) (x2 + 1) (ev_s A9 x1.toNatClampNeg (ev_g K x2.toNatClampNeg).toInt8.toInt32))
    else if ev_g K x2.toNatClampNeg = 10 then (if x1 = 3 then k 0 A9 else ev_c x1 4 && ev_bf n K k f (x1 + 1) (x2 + 1) (ev_s A9 x1.toNatClampNeg (ev_g K x2.toNatClampNeg).toInt8.toInt32))
    else if ev_g K x2.toNatClampNeg = 9 then (if x1 = 0 then k 0 A9 else ev_c (x1 - 1) 4 && (if ev_g A9 (x1 - 1).toNatClampNeg = 8 then ev_c (x1 - 1) 4 && ev_bf n K k f x1 (x2 + 1) (ev_s A9 (x1 - 1).toNatClampNeg 9) else k 0 A9))
    else if ev_g K x2.toNatClampNeg = 11 then (if x1 = 0 then k 0 A9 else ev_bf n K k f (x1 + (-1)) (x2 + 1) A9)
    else ev_bf n K k f x1 (x2 + 1) A9)
theorem ev_bf_ok {ce ld ol ob : Int32} {A6 A7 A8 A10 : List Int32} {k : Int32 → List Int32 → Bool} {post : Int32 → St2 → Prop} (hk : ∀ r A9, k r A9 = true → post r (n, cp, sd, ce, ld, ol, ob, dp, pc, ev_g K, ev_g F, ev_g S, ev_g T, a5, ev_g A6, ev_g A7, ev_g A8, ev_g A9, ev_g A10, a11, a12)) : ∀ (f : Nat) (x1 x2 : Int32) (A9 : List Int32), ev_bf n K k f x1 x2 A9 = true → wX_blocksFit_4 post n cp sd ce ld ol ob dp pc f x1 x2 (ev_g K) (ev_g F) (ev_g S) (ev_g T) a5 (ev_g A6) (ev_g A7) (ev_g A8) (ev_g A9) (ev_g A10) a11 a12
  | 0, _, _, _, h => ev_no h
  | f + 1, x1, x2, A9, h => ev_if h (fun _ h => ev_if h (fun _ h => hk _ _ h) (fun _ h => hk _ _ h)) (fun _ h => ev_an h (fun hc h => ⟨ev_ci hc, nm_e (ev_if h
      (fun _ h => ev_if h (fun _ h => hk _ _ h) (fun _ h => ev_an h (fun hc h => ⟨ev_ci hc, nm_r (ev_us _ _ _) (nm_e (nm_e (ev_bf_ok hk f _ _ _ h)))⟩)))
      (fun _ h => ev_if h (fun _ h => ev_if h (fun _ h => hk _ _ h) (fun _ h => ev_an h (fun hc h => ⟨ev_ci hc, nm_r (ev_us _ _ _) (nm_e (nm_e (ev_bf_ok hk f _ _ _ h)))⟩)))
      (fun _ h => ev_if h (fun _ h => ev_if h (fun _ h => hk _ _ h) (fun _ h => ev_an h (fun hc h => ⟨ev_ci hc, ev_if h (fun _ h => ev_an h (fun hc h => ⟨ev_ci hc, nm_r (ev_us _ _ _) (nm_e (ev_bf_ok hk f _ _ _ h))⟩)) (fun _ h => hk _ _ h)⟩)))
      (fun _ h => ev_if h (fun _ h => ev_if h (fun _ h => hk _ _ h) (fun _ h => nm_e (nm_e (ev_bf_ok hk f _ _ _ h))))
      (fun _ h => nm_e (ev_bf_ok hk f _ _ _ h))))))⟩))
/-- compile, where nothing is compiled yet; the answer r of blocksFit ahead of the state -/
def ev_co (n : Int32) (K F S T : List Int32) (k : Int32 → ev_K) (ce ld ol ob : Int32) (A6 A7 A8 A9 A10 : List Int32) : Bool :=
  ev_bf n K (fun r A9 => if r = 0 then k 0 ce ld ol ob A6 A7 A8 A9 A10 else decide (r = 1) && ev_l5 n K F S T (k 1) 10 0 (0) (0) (0) (0) A6 A7 A8 A9 A10) 20 0 0 A9
theorem ev_b0 : narrow .boolean (.int 0) = .int 0 ∧ fits .boolean (.int 0) = true := ⟨rfl, rfl⟩
theorem ev_b1 : narrow .boolean (.int 1) = .int 1 ∧ fits .boolean (.int 1) = true := ⟨rfl, rfl⟩
theorem ev_co_ok {k : Int32 → ev_K} {ce ld ol ob : Int32} {A6 A7 A8 A9 A10 : List Int32} {post : St2 → Prop} (h : ev_co n K F S T k ce ld ol ob A6 A7 A8 A9 A10 = true) (hk : ∀ r ce ld ol ob A6 A7 A8 A9 A10, k r ce ld ol ob A6 A7 A8 A9 A10 = true → post (n, 1, r, ce, ld, ol, ob, dp, pc, ev_g K, ev_g F, ev_g S, ev_g T, a5, ev_g A6, ev_g A7, ev_g A8, ev_g A9, ev_g A10, a11, a12)) : wpX_compile post (n, 0, sd, ce, ld, ol, ob, dp, pc, ev_g K, ev_g F, ev_g S, ev_g T, a5, ev_g A6, ev_g A7, ev_g A8, ev_g A9, ev_g A10, a11, a12) :=
  br_t rfl ⟨20, ev_bf_ok (fun r A9 h => by
    by_cases z : r = 0
    · rw [if_pos z] at h
      subst z
      exact ⟨ev_b0.1, ev_b0.2, br_t rfl (hk _ _ _ _ _ _ _ _ _ _ h)⟩
    · rw [if_neg z] at h
      refine ev_an h (fun e0 h2 => ?_)
      have e := of_decide_eq_true e0
      clear h e0
      subst e
      have h' : ev_l5 n K F S T (k 1) 10 0 0 0 0 0 A6 A7 A8 A9 A10 = true := h2
      have g := ev_l5_ok (n := n) (cp := 1) (sd := 1) (dp := dp) (pc := pc) (K := K) (F := F) (S := S) (T := T) (a5 := a5) (a11 := a11) (a12 := a12) (k := k 1) (post := post) (hk 1) 10 0 0 0 0 0 A6 A7 A8 A9 A10 h'
      exact ⟨ev_b1.1, ev_b1.2, br_f z ⟨10, g⟩⟩) 20 0 0 _ h⟩
end
end
section
section
variable {cp sd dp pc : Int32} {a5 a11 a12 : Nat → Int32} {ce ld ol ob : Int32} {A6 A7 A8 A9 A10 : List Int32}
/-! add, where the statement is taken; it is no SET -/
abbrev ev_A : Type := Int32 → List Int32 → List Int32 → List Int32 → List Int32 → Bool
def ev_d9 (p0 p1 p2 p3 : Int32) (k : ev_A) (n : Int32) (K F S T : List Int32) : Bool := ev_c n 40 && (if p0 = 0 then false else ev_c n 40 && (if p0 = 0 then false else ev_c n 40 && (ev_c n 40 && k (n + 1) (ev_s K n.toNatClampNeg p0.toInt8.toInt32) (ev_s F n.toNatClampNeg p1) (ev_s S n.toNatClampNeg p2.toInt8.toInt32) (ev_s T n.toNatClampNeg p3.toInt8.toInt32))))
theorem ev_d9_ok {p0 p1 p2 p3 n : Int32} {K F S T : List Int32} {k : ev_A} {post : Int32 → St2 → Prop} (h : ev_d9 p0 p1 p2 p3 k n K F S T = true) (hk : ∀ n K F S T, k n K F S T = true → post n (n, 0, sd, ce, ld, ol, ob, dp, pc, ev_g K, ev_g F, ev_g S, ev_g T, a5, ev_g A6, ev_g A7, ev_g A8, ev_g A9, ev_g A10, a11, a12)) : wX_add_93 post p0 p1 p2 p3 n cp sd ce ld ol ob dp pc (ev_g K) (ev_g F) (ev_g S) (ev_g T) a5 (ev_g A6) (ev_g A7) (ev_g A8) (ev_g A9) (ev_g A10) a11 a12 :=
  ev_an h (fun hc h => ⟨ev_ci hc, nm_r (ev_us _ _ _) (ev_if h (fun _ h => ev_no h) (fun _ h => ev_an h (fun hc h => ⟨ev_ci hc, nm_r (ev_us _ _ _) (ev_if h (fun _ h => ev_no h) (fun _ h => ev_an h (fun hc h => ⟨ev_ci hc, nm_r (ev_us _ _ _) (ev_an h (fun hc h => ⟨ev_ci hc, nm_r (ev_us _ _ _) (nm_e (hk _ _ _ _ _ h))⟩))⟩)))⟩)))⟩)
def ev_d6 (p0 p1 p2 p3 : Int32) (k : ev_A) (n : Int32) (K F S T : List Int32) : Bool := if p0 < 2 then ev_d9 p0 p1 p2 p3 k n K F S T else if 6 < p0 then ev_d9 p0 p1 p2 p3 k n K F S T else if p3 < 0 then false else if p3 ≤ 5 then ev_d9 p0 p1 p2 p3 k n K F S T else false
theorem ev_d6_ok {p0 p1 p2 p3 n : Int32} {K F S T : List Int32} {k : ev_A} {post : Int32 → St2 → Prop} (h : ev_d6 p0 p1 p2 p3 k n K F S T = true) (hk : ∀ n K F S T, k n K F S T = true → post n (n, 0, sd, ce, ld, ol, ob, dp, pc, ev_g K, ev_g F, ev_g S, ev_g T, a5, ev_g A6, ev_g A7, ev_g A8, ev_g A9, ev_g A10, a11, a12)) : wX_add_69 post p0 p1 p2 p3 n cp sd ce ld ol ob dp pc (ev_g K) (ev_g F) (ev_g S) (ev_g T) a5 (ev_g A6) (ev_g A7) (ev_g A8) (ev_g A9) (ev_g A10) a11 a12 :=
  ev_if h (fun _ h => ev_d9_ok h hk) (fun _ h => ev_if h (fun _ h => ev_d9_ok h hk) (fun _ h => ev_if h (fun _ h => ev_no h) (fun _ h => ev_if h (fun _ h => ev_d9_ok h hk) (fun _ h => ev_no h))))
def ev_d4 (p0 p1 p2 p3 : Int32) (k : ev_A) (n : Int32) (K F S T : List Int32) : Bool := if p0 < 1 then ev_d6 p0 p1 p2 p3 k n K F S T else if 6 < p0 then ev_d6 p0 p1 p2 p3 k n K F S T else if p2 < 0 then false else if p2 ≤ 5 then ev_d6 p0 p1 p2 p3 k n K F S T else false
theorem ev_d4_ok {p0 p1 p2 p3 n : Int32} {K F S T : List Int32} {k : ev_A} {post : Int32 → St2 → Prop} (h : ev_d4 p0 p1 p2 p3 k n K F S T = true) (hk : ∀ n K F S T, k n K F S T = true → post n (n, 0, sd, ce, ld, ol, ob, dp, pc, ev_g K, ev_g F, ev_g S, ev_g T, a5, ev_g A6, ev_g A7, ev_g A8, ev_g A9, ev_g A10, a11, a12)) : wX_add_47 post p0 p1 p2 p3 n cp sd ce ld ol ob dp pc (ev_g K) (ev_g F) (ev_g S) (ev_g T) a5 (ev_g A6) (ev_g A7) (ev_g A8) (ev_g A9) (ev_g A10) a11 a12 :=
  ev_if h (fun _ h => ev_d6_ok h hk) (fun _ h => ev_if h (fun _ h => ev_d6_ok h hk) (fun _ h => ev_if h (fun _ h => ev_no h) (fun _ h => ev_if h (fun _ h => ev_d6_ok h hk) (fun _ h => ev_no h))))
def ev_ad (p0 p1 p2 p3 : Int32) (k : ev_A) (n : Int32) (K F S T : List Int32) : Bool := if n < 40 then (if p0 < 0 then false else if p0 ≤ 11 then (if p0 = 9 then ev_d4 p0 p1 p2 p3 k n K F S T else if p0 = 11 then ev_d4 p0 p1 p2 p3 k n K F S T else if p1 < 0 then false else if p1 ≤ 5 then ev_d4 p0 p1 p2 p3 k n K F S T else false) else false) else false
theorem ev_ad_ok {p0 p1 p2 p3 n : Int32} {K F S T : List Int32} {k : ev_A} {post : Int32 → St2 → Prop} (h : ev_ad p0 p1 p2 p3 k n K F S T = true) (hk : ∀ n K F S T, k n K F S T = true → post n (n, 0, sd, ce, ld, ol, ob, dp, pc, ev_g K, ev_g F, ev_g S, ev_g T, a5, ev_g A6, ev_g A7, ev_g A8, ev_g A9, ev_g A10, a11, a12)) : wpX_add post (n, cp, sd, ce, ld, ol, ob, dp, pc, ev_g K, ev_g F, ev_g S, ev_g T, a5, ev_g A6, ev_g A7, ev_g A8, ev_g A9, ev_g A10, a11, a12) p0 p1 p2 p3 :=
  ev_if h (fun _ h => ev_if h (fun _ h => ev_no h) (fun _ h => ev_if h (fun _ h => ev_if h (fun _ h => ev_d4_ok h hk) (fun _ h => ev_if h (fun _ h => ev_d4_ok h hk) (fun _ h => ev_if h (fun _ h => ev_no h) (fun _ h => ev_if h (fun _ h => ev_d4_ok h hk) (fun _ h => ev_no h))))) (fun _ h => ev_no h))) (fun _ h => ev_no h)
end
/-! the source of the law; p: the passes -/
def sr_K : List Int32 := [10, 6, 8, 2, 9, 3, 1, 11, 7, 5, 11]
def sr_F (p : Nat) : List Int32 := [nI p, 3, 3, 0, 0, 0, 4, 0, 0, 1, 0]
def sr_S : List Int32 := [0, 0, 0, 0, 0, 0, 0, 0, 0, 1, 0]
def sr_T : List Int32 := [0, 1, 0, 2, 0, 1, 0, 0, 0, 2, 0]
/-- the first seven statements -/
def sr_a7 (p : Int32) (k : ev_A) : Bool :=
  ev_ad 10 p 0 0 (ev_ad 6 3 0 1 (ev_ad 8 3 0 0 (ev_ad 2 0 0 2 (ev_ad 9 0 0 0 (ev_ad 3 0 0 1 (ev_ad 1 4 0 0 k)))))) 0 [] [] [] []
/-- the last four -/
def sr_a4 (k : ev_A) (n : Int32) (K F S T : List Int32) : Bool :=
  ev_ad 11 0 0 0 (ev_ad 7 0 0 0 (ev_ad 5 1 1 2 (ev_ad 11 0 0 0 k))) n K F S T
/-- what the compiler makes of it -/
def ms_C (p : Nat) : List (Nat × Nat) := [(0, p), (1, 0), (10, 49), (1, 6), (1, 6), (6, 0), (7, 4), (8, 0), (7, 3), (7, 3), (7, 3), (1, 3), (10, 23), (7, 6), (1, 5), (2, 0), (7, 6), (7, 6), (7, 6), (7, 6), (7, 6), (7, 6), (11, 36), (7, 6), (1, 6), (3, 0), (1, 0), (7, 4), (8, 0), (7, 1), (7, 6), (7, 6), (7, 6), (7, 4), (7, 6), (7, 6), (1, 6), (9, 0), (7, 5), (1, 5), (5, 0), (7, 5), (7, 5), (7, 5), (7, 5), (7, 5), (0, 4294967295), (2, 0), (11, 1), (8, 0)]
/-- the first source isn't sound, the whole one is, and is compiled so -/
def sr_fin (p : Nat) : Int32 → ev_K := fun r ce _ _ _ A6 A7 _ _ _ => decide (r = 1 ∧ ce = 50 ∧ A6 = (ms_C p).map (fun x => nI x.1) ∧ A7 = (ms_C p).map (fun x => nI x.2))
def sr_c7 : ev_A := fun n K F S T => ev_co n K F S T (fun r ce ld ol ob A6 A7 A8 A9 A10 => decide (r = 0 ∧ ce = 0 ∧ ld = 0 ∧ ol = 0 ∧ ob = 0 ∧ A6 = [] ∧ A7 = [] ∧ A8 = [] ∧ A9 = [10, 9] ∧ A10 = [] ∧ n = 7)) 0 0 0 0 [] [] [] [] []
theorem sr_1 : ∀ p, p < 6 → sr_a7 (nI p) (fun n K F S T => decide (n = 7 ∧ K = sr_K.take 7 ∧ F = (sr_F p).take 7 ∧ S = sr_S.take 7 ∧ T = sr_T.take 7)) = true := by decide +kernel
theorem sr_2 : ∀ p, p < 6 → sr_c7 7 (sr_K.take 7) ((sr_F p).take 7) (sr_S.take 7) (sr_T.take 7) = true := by decide +kernel
theorem sr_3 : ∀ p, p < 6 → sr_a4 (fun n K F S T => decide (n = 11 ∧ K = sr_K ∧ F = sr_F p ∧ S = sr_S ∧ T = sr_T)) 7 (sr_K.take 7) ((sr_F p).take 7) (sr_S.take 7) (sr_T.take 7) = true := by decide +kernel
theorem sr_4 : ∀ p, p < 6 → ev_co 11 sr_K (sr_F p) sr_S sr_T (sr_fin p) 0 0 0 0 [] [] [] [10, 9] [] = true := by decide +kernel
end
section
/-- the array holds the list S, its last place first -/
def ms_k (a : Nat → Int32) : List Int32 → Prop
  | [] => True
  | x :: S => a S.length = x ∧ ms_k a S
theorem ms_ku {a : Nat → Int32} {j : Nat} {v : Int32} : ∀ {S : List Int32}, ms_k a S → S.length ≤ j → ms_k (upd a j v) S
  | [], _, _ => trivial
  | x :: S, h, hj => by
    have hj' : S.length + 1 ≤ j := hj
    exact ⟨(pk_un (by omega)).trans h.1, ms_ku h.2 (by omega)⟩
theorem ms_kp {a : Nat → Int32} {v : Int32} {S : List Int32} (h : ms_k a S) : ms_k (upd a S.length v) (v :: S) := ⟨pk_us, ms_ku h (Nat.le_refl _)⟩
theorem ms_ks {a : Nat → Int32} {v y : Int32} {R : List Int32} : ∀ {P : List Int32}, ms_k a (P ++ y :: R) → ms_k (upd a R.length v) (P ++ v :: R)
  | [], h => ⟨pk_us, ms_ku h.2 (Nat.le_refl _)⟩
  | z :: P, h => by
    have e : (P ++ v :: R).length = (P ++ y :: R).length := by simp
    have l : R.length < (P ++ v :: R).length := by simp; omega
    have r : upd a R.length v (P ++ v :: R).length = z := (pk_un (by omega)).trans (by rw [e]; exact h.1)
    exact ⟨r, ms_ks h.2⟩
theorem ms_kx {a : Nat → Int32} {y : Int32} {R : List Int32} : ∀ {P : List Int32}, ms_k a (P ++ y :: R) → a R.length = y
  | [], h => h.1
  | z :: P, h => ms_kx (P := P) h.2
theorem ms_kn {a : Nat → Int32} : ∀ {S : List Int32} {d : Nat}, d < S.length → ms_k a S → a (S.length - 1 - d) = S.getD d 0
  | x :: S, 0, _, h => h.1
  | x :: S, d + 1, hd, h => by
    have hd' : d + 1 < S.length + 1 := hd
    have e : (x :: S).length - 1 - (d + 1) = S.length - 1 - d := by
      show S.length + 1 - 1 - (d + 1) = _
      omega
    rw [e]
    exact ms_kn (by omega) h.2
theorem ms_sp : ∀ (S : List Int32) (d : Nat), d < S.length → ∃ (Q R : List Int32), S = Q.reverse ++ S.getD d 0 :: R ∧ Q.length = d ∧ S.eraseIdx d = Q.reverse ++ R
  | x :: S, 0, _ => ⟨[], S, rfl, rfl, rfl⟩
  | x :: S, d + 1, h => by
    have h' : d + 1 < S.length + 1 := h
    obtain ⟨Q, R, e1, e2, e3⟩ := ms_sp S d (by omega)
    refine ⟨Q ++ [x], R, ?_, ?_, ?_⟩
    · rw [List.reverse_append]
      show x :: S = x :: (Q.reverse ++ S.getD d 0 :: R)
      rw [← e1]
    · rw [List.length_append, e2]; rfl
    · rw [List.reverse_append]
      show x :: S.eraseIdx d = x :: (Q.reverse ++ R)
      rw [e3]
section
variable {post : Int32 → St2 → Prop} {n cp sd ce ld ol ob pc : Int32} {a1 a2 a3 a4 a5 a6 a7 a8 a9 a10 a12 : Nat → Int32}
/-! pull -/
theorem ms_pl {ps : St2 → Prop} {x2 : Int32} {D : Nat} {Z : List Int32} (hD : D ≤ 16) (H : ∀ a11, ms_k a11 (x2 :: Z) → ps (n, cp, sd, ce, ld, ol, ob, nI D, pc, a1, a2, a3, a4, a5, a6, a7, a8, a9, a10, a11, a12)) :
    ∀ (Q R : List Int32) (y : Int32) (a11 : Nat → Int32) (f : Nat), Q.length < f → D = Q.length + R.length + 1 → Q.reverse ++ R = Z → ms_k a11 (Q.reverse ++ y :: R) → wX_pull_23 ps x2 n cp sd ce ld ol ob (nI D) pc f (nI R.length) a1 a2 a3 a4 a5 a6 a7 a8 a9 a10 a11 a12
  | [], R, y, a11, f + 1, hf, e, ez, hk => by
    have e' : D = R.length + 1 := by rw [e]; show 0 + R.length + 1 = _; omega
    subst e'
    subst ez
    refine pk_le R.length R.length (fun _ => ⟨pk_in R.length 16 (by omega) (nI_pred _), nm_r (e' := upd a11 R.length x2) (by rw [nI_pred, nI_clamp (by omega)]) (H _ ?_)⟩) (fun z => absurd z (by omega)) (nI_pred _)
    exact ms_kp hk.2
  | z :: Q, R, y, a11, f + 1, hf, e, ez, hk => by
    have hf' : Q.length + 1 < f + 1 := hf
    have e' : D = (Q.length + R.length + 1) + 1 := by rw [e]; show Q.length + 1 + R.length + 1 = _; omega
    rw [List.reverse_cons, List.append_assoc] at hk ez
    have hz : a11 (R.length + 1) = z := ms_kx (P := Q.reverse) (R := y :: R) hk
    have hk' : ms_k (upd a11 R.length z) ((Q.reverse ++ [z]) ++ z :: R) := ms_ks (by rw [List.append_assoc]; exact hk)
    rw [List.append_assoc] at hk'
    refine pk_le (Q.length + R.length + 1) R.length (fun w => absurd w (by omega)) (fun _ => ⟨pk_in (R.length + 1) 16 (by omega) (nI_1 _), pk_in R.length 16 (by omega), nm_r (e' := upd a11 R.length z) (by rw [nI_1, nI_clamp (by omega), nI_clamp (by omega), hz]) (nm_r (nI_1 _) ?_)⟩) (by rw [e']; exact nI_pred _)
    exact ms_pl hD H Q (z :: R) z _ f (by omega) (by rw [e']; show _ = Q.length + (R.length + 1) + 1; omega) ez hk'
theorem ms_pull {ps : St2 → Prop} {S : List Int32} {d : Nat} {a11 : Nat → Int32} (hS : S.length ≤ 16) (hd : d < S.length) (hk : ms_k a11 S) (H : ∀ a11, ms_k a11 (S.getD d 0 :: S.eraseIdx d) → ps (n, cp, sd, ce, ld, ol, ob, nI S.length, pc, a1, a2, a3, a4, a5, a6, a7, a8, a9, a10, a11, a12)) : wpX_pull ps (n, cp, sd, ce, ld, ol, ob, nI S.length, pc, a1, a2, a3, a4, a5, a6, a7, a8, a9, a10, a11, a12) (nI d) := by
  obtain ⟨Q, R, e1, e2, e3⟩ := ms_sp S d hd
  have hl : S.length = Q.length + R.length + 1 := by
    have := congrArg List.length e1
    simp at this
    omega
  have hi : (nI S.length - 1) - nI d = nI R.length := by
    rw [hl, nI_pred, pk_sub (by omega)]
    congr 1
    omega
  refine ⟨pk_in R.length 16 (by omega) hi, nm_r (e' := S.getD d 0) ?_ (nm_r hi ⟨20, ms_pl (Z := S.eraseIdx d) hS H Q R (S.getD d 0) a11 20 (by omega) hl e3.symm ?_⟩)⟩
  · rw [hi, nI_clamp (by omega)]
    rw [e1] at hk
    exact ms_kx (P := Q.reverse) hk
  · rw [← e1]; exact hk
/-! perform, one instruction -/
variable {q d D : Nat} {a11 : Nat → Int32}
theorem ms_p0 (hq : q < 560) (ho : a6 q = nI 0) (hv : a7 q = nI d) (hD : D < 16) (H : post (nI (q + 1)) (n, cp, sd, ce, ld, ol, ob, nI (D + 1), pc, a1, a2, a3, a4, a5, a6, a7, a8, a9, a10, upd a11 D (nI d), a12)) : wpX_perform post (n, cp, sd, ce, ld, ol, ob, nI D, pc, a1, a2, a3, a4, a5, a6, a7, a8, a9, a10, a11, a12) (nI q) :=
  ⟨pk_in q 560 hq, nm_r (e' := nI 0) (by rw [nI_clamp (by omega)]; exact ho) ⟨pk_in q 560 hq, nm_r (e' := nI d) (by rw [nI_clamp (by omega)]; exact hv) (nm_r (nI_1 q)
    (br_t (by decide) (br_t rfl ⟨pk_in D 16 hD, nm_r (e' := upd a11 D (nI d)) (by rw [nI_clamp (by omega)]) (nm_r (nI_1 D) H)⟩)))⟩⟩
theorem ms_p1 (hq : q < 560) (ho : a6 q = nI 1) (hv : a7 q = nI d) (hD : D < 16) (hd : d < D) (H : post (nI (q + 1)) (n, cp, sd, ce, ld, ol, ob, nI (D + 1), pc, a1, a2, a3, a4, a5, a6, a7, a8, a9, a10, upd a11 D (a11 (D - 1 - d)), a12)) : wpX_perform post (n, cp, sd, ce, ld, ol, ob, nI D, pc, a1, a2, a3, a4, a5, a6, a7, a8, a9, a10, a11, a12) (nI q) := by
  have hi : (nI D - 1) - nI d = nI (D - 1 - d) := by
    obtain ⟨E, rfl⟩ : ∃ E, D = E + 1 := ⟨D - 1, by omega⟩
    rw [nI_pred, pk_sub (by omega)]; rfl
  exact ⟨pk_in q 560 hq, nm_r (e' := nI 1) (by rw [nI_clamp (by omega)]; exact ho) ⟨pk_in q 560 hq, nm_r (e' := nI d) (by rw [nI_clamp (by omega)]; exact hv) (nm_r (nI_1 q)
    (br_t (by decide) (br_f (by decide) (br_t rfl ⟨pk_in (D - 1 - d) 16 (by omega) hi, pk_in D 16 hD, nm_r (e' := upd a11 D (a11 (D - 1 - d))) (by rw [hi, nI_clamp (by omega), nI_clamp (by omega)]) (nm_r (nI_1 D) H)⟩))))⟩⟩
theorem ms_p7 {S : List Int32} (hq : q < 560) (ho : a6 q = nI 7) (hv : a7 q = nI d) (hD : S.length ≤ 16) (hd : d < S.length) (hk : ms_k a11 S) (H : ∀ a11, ms_k a11 (S.getD d 0 :: S.eraseIdx d) → post (nI (q + 1)) (n, cp, sd, ce, ld, ol, ob, nI S.length, pc, a1, a2, a3, a4, a5, a6, a7, a8, a9, a10, a11, a12)) : wpX_perform post (n, cp, sd, ce, ld, ol, ob, nI S.length, pc, a1, a2, a3, a4, a5, a6, a7, a8, a9, a10, a11, a12) (nI q) :=
  ⟨pk_in q 560 hq, nm_r (e' := nI 7) (by rw [nI_clamp (by omega)]; exact ho) ⟨pk_in q 560 hq, nm_r (e' := nI d) (by rw [nI_clamp (by omega)]; exact hv) (nm_r (nI_1 q)
    (br_f (by decide) (br_t (by decide) (br_f (by decide) (br_f (by decide) (br_t rfl (ms_pull hD hd hk H)))))))⟩⟩
theorem ms_p11 (hq : q < 560) (ho : a6 q = nI 11) (hv : a7 q = nI d) (H : post (nI d) (n, cp, sd, ce, ld, ol, ob, nI D, pc, a1, a2, a3, a4, a5, a6, a7, a8, a9, a10, a11, a12)) : wpX_perform post (n, cp, sd, ce, ld, ol, ob, nI D, pc, a1, a2, a3, a4, a5, a6, a7, a8, a9, a10, a11, a12) (nI q) :=
  ⟨pk_in q 560 hq, nm_r (e' := nI 11) (by rw [nI_clamp (by omega)]; exact ho) ⟨pk_in q 560 hq, nm_r (e' := nI d) (by rw [nI_clamp (by omega)]; exact hv) (nm_r (nI_1 q)
    (br_f (by decide) (br_t (by decide) (br_f (by decide) (br_f (by decide) (br_f (by decide) (br_t rfl H)))))))⟩⟩
theorem ms_p8 (hq : q < 560) (ho : a6 q = nI 8) (hv : a7 q = nI d) (H : post (nI (q + 1)) (n, cp, sd, ce, ld, ol, ob, nI D, pc, a1, a2, a3, a4, a5, a6, a7, a8, a9, a10, a11, a12)) : wpX_perform post (n, cp, sd, ce, ld, ol, ob, nI (D + 1), pc, a1, a2, a3, a4, a5, a6, a7, a8, a9, a10, a11, a12) (nI q) :=
  ⟨pk_in q 560 hq, nm_r (e' := nI 8) (by rw [nI_clamp (by omega)]; exact ho) ⟨pk_in q 560 hq, nm_r (e' := nI d) (by rw [nI_clamp (by omega)]; exact hv) (nm_r (nI_1 q)
    (br_f (by decide) (br_t (by decide) (br_f (by decide) (br_f (by decide) (br_f (by decide) (br_f (by decide) (nm_r (nI_pred D) (br_f (by decide) (br_f (by decide) H))))))))))⟩⟩
theorem ms_p10 (hq : q < 560) (ho : a6 q = nI 10) (hv : a7 q = nI d) (hD : D < 16) (H : post (nI (if 0 < a11 D then q + 1 else d)) (n, cp, sd, ce, ld, ol, ob, nI D, pc, a1, a2, a3, a4, a5, a6, a7, a8, a9, a10, a11, a12)) : wpX_perform post (n, cp, sd, ce, ld, ol, ob, nI (D + 1), pc, a1, a2, a3, a4, a5, a6, a7, a8, a9, a10, a11, a12) (nI q) :=
  ⟨pk_in q 560 hq, nm_r (e' := nI 10) (by rw [nI_clamp (by omega)]; exact ho) ⟨pk_in q 560 hq, nm_r (e' := nI d) (by rw [nI_clamp (by omega)]; exact hv) (nm_r (nI_1 q)
    (br_f (by decide) (br_t (by decide) (br_f (by decide) (br_f (by decide) (br_f (by decide) (br_f (by decide) (nm_r (nI_pred D) (br_f (by decide) (br_t rfl ⟨pk_in D 16 hD, (by
      rw [nI_clamp (by omega)]
      exact br_c (fun z => by rw [if_pos z] at H; exact H) (fun z => by rw [if_neg z] at H; exact H))⟩))))))))))⟩⟩
theorem ms_p9 {E : Nat} (hq : q < 560) (ho : a6 q = nI 9) (hv : a7 q = nI d) (hD : D < 16) (hE : E < 64) (H : post (nI (q + 1)) (n, cp, sd, ce, ld, ol, ob, nI D, nI (E + 1), a1, a2, a3, a4, a5, a6, a7, a8, a9, a10, a11, upd a12 E (a11 D))) : wpX_perform post (n, cp, sd, ce, ld, ol, ob, nI (D + 1), nI E, a1, a2, a3, a4, a5, a6, a7, a8, a9, a10, a11, a12) (nI q) :=
  ⟨pk_in q 560 hq, nm_r (e' := nI 9) (by rw [nI_clamp (by omega)]; exact ho) ⟨pk_in q 560 hq, nm_r (e' := nI d) (by rw [nI_clamp (by omega)]; exact hv) (nm_r (nI_1 q)
    (br_f (by decide) (br_t (by decide) (br_f (by decide) (br_f (by decide) (br_f (by decide) (br_f (by decide) (nm_r (nI_pred D) (br_t rfl ⟨pk_in D 16 hD,
      br_f (nI_ge (b := 64) hE (by decide)) ⟨pk_in E 64 hE, nm_r (e' := upd a12 E (a11 D)) (by rw [nI_clamp (by omega), nI_clamp (by omega)]) (nm_r (nI_1 E) (br_f (by decide) H))⟩⟩)))))))))⟩⟩
/-- the arithmetic ones -/
def ms_f (op : Nat) (x y : Int32) : Int32 := match op with
  | 2 => x + y
  | 3 => x - y
  | 5 => x ^^^ y
  | _ => if y ≤ x then 0 else 1
theorem ms_cf {op : Nat} {ps : Int32 → Prop} {u : St2} {x y : Int32} (ho : op = 2 ∨ op = 3 ∨ op = 5 ∨ op = 6) (H : ps (ms_f op x y)) : wpX_compute ps u (nI op) x y := by
  obtain ⟨f1, f2, f3, f4, f5, f6, f7, f8, f9, b1, b2, b3, b4, b5, b6, b7, b8, b9, b10, b11, b12⟩ := u
  rcases ho with rfl | rfl | rfl | rfl
  · exact br_t rfl H
  · exact br_f (by decide) (br_t rfl H)
  · exact br_f (by decide) (br_f (by decide) (br_f (by decide) (br_t rfl H)))
  · refine br_f (by decide) (br_f (by decide) (br_f (by decide) (br_f (by decide) ?_)))
    have H' : ps (if y ≤ x then 0 else 1) := H
    exact br_c (fun z => by rw [if_pos z] at H'; exact H') (fun z => by rw [if_neg z] at H'; exact H')
theorem ms_p2 {op : Nat} (hq : q < 560) (hop : op = 2 ∨ op = 3 ∨ op = 5 ∨ op = 6) (ho : a6 q = nI op) (hv : a7 q = nI d) (hD : D + 1 < 16) (H : post (nI (q + 1)) (n, cp, sd, ce, ld, ol, ob, nI (D + 1), pc, a1, a2, a3, a4, a5, a6, a7, a8, a9, a10, upd a11 D (ms_f op (a11 D) (a11 (D + 1))), a12)) : wpX_perform post (n, cp, sd, ce, ld, ol, ob, nI (D + 2), pc, a1, a2, a3, a4, a5, a6, a7, a8, a9, a10, a11, a12) (nI q) := by
  have h1 : nI (D + 2) - 1 = nI (D + 1) := nI_pred (D + 1)
  have h2 : nI (D + 1) - 1 = nI D := nI_pred D
  have b1 : ¬ nI op < 2 := by rcases hop with rfl | rfl | rfl | rfl <;> decide
  have b2 : ¬ 6 < nI op := by rcases hop with rfl | rfl | rfl | rfl <;> decide
  refine ⟨pk_in q 560 hq, nm_r (e' := nI op) (by rw [nI_clamp (by omega)]; exact ho) ⟨pk_in q 560 hq, nm_r (e' := nI d) (by rw [nI_clamp (by omega)]; exact hv) (nm_r (nI_1 q)
    (br_f b1 (br_f b2 (nm_r h1 ⟨pk_in D 16 (by omega) h2, pk_in (D + 1) 16 hD, ?_⟩))))⟩⟩
  rw [h2, nI_clamp (show D < 2 ^ 31 by omega), nI_clamp (show D + 1 < 2 ^ 31 by omega)]
  exact ms_cf hop ⟨pk_in D 16 (by omega), nm_e H⟩
end
end
section
/-! the machine over lists: the stack and what is printed, the last first -/
def ms_at : List (Nat × Nat) → Nat → Nat × Nat
  | [], _ => (99, 0)
  | x :: _, 0 => x
  | _ :: L, k + 1 => ms_at L k
theorem ms_g1 : ∀ (L : List (Nat × Nat)) (k : Nat), k < L.length → ev_g (L.map (fun x => nI x.1)) k = nI (ms_at L k).1
  | x :: L, 0, _ => rfl
  | x :: L, k + 1, h => ms_g1 L k (Nat.lt_of_succ_lt_succ h)
theorem ms_g2 : ∀ (L : List (Nat × Nat)) (k : Nat), k < L.length → ev_g (L.map (fun x => nI x.2)) k = nI (ms_at L k).2
  | x :: L, 0, _ => rfl
  | x :: L, k + 1, h => ms_g2 L k (Nat.lt_of_succ_lt_succ h)
abbrev ms_T : Type := Nat × List Int32 × List Int32
def ms_bi (o q : Nat) (S P : List Int32) : Option ms_T := match S with
  | y :: x :: R => some (q + 1, ms_f o x y :: R, P)
  | _ => none
def ms_op (o d q : Nat) (S P : List Int32) : Option ms_T :=
  if o = 0 then some (q + 1, nI d :: S, P)
  else if o = 1 then (if d < S.length then some (q + 1, S.getD d 0 :: S, P) else none)
  else if o = 7 then (if d < S.length then some (q + 1, S.getD d 0 :: S.eraseIdx d, P) else none)
  else if o = 8 then (match S with | [] => none | _ :: R => some (q + 1, R, P))
  else if o = 9 then (match S with | [] => none | x :: R => some (q + 1, R, x :: P))
  else if o = 10 then (match S with | [] => none | x :: R => some (if 0 < x then q + 1 else d, R, P))
  else if o = 11 then some (d, S, P)
  else if o = 2 ∨ o = 3 ∨ o = 5 ∨ o = 6 then ms_bi o q S P
  else none
def ms_st (C : List (Nat × Nat)) (s : ms_T) : Option ms_T :=
  if s.1 < 50 ∧ s.2.1.length < 15 then ms_op (ms_at C s.1).1 (ms_at C s.1).2 s.1 s.2.1 s.2.2 else none
theorem ms_len {o d q : Nat} {S P : List Int32} {s : ms_T} (h : ms_op o d q S P = some s) : s.2.2.length ≤ P.length + 1 := by
  unfold ms_op ms_bi at h
  repeat' split at h
  all_goals first | (cases h; done) | (cases h; show List.length _ ≤ _; simp)
section
variable {post : Int32 → St2 → Prop} {n cp sd ld ol ob : Int32} {a1 a2 a3 a4 a5 a6 a7 a8 a9 a10 : Nat → Int32} {C : List (Nat × Nat)}
def ms_W (post : Int32 → St2 → Prop) (n cp sd ld ol ob : Int32) (a1 a2 a3 a4 a5 a6 a7 a8 a9 a10 : Nat → Int32) (f st : Nat) (s : ms_T) : Prop :=
  ∀ a11 a12, ms_k a11 s.2.1 → ms_k a12 s.2.2 → wX_run_55 post f (nI s.1) (nI st) n cp sd 50 ld ol ob (nI s.2.1.length) (nI s.2.2.length) a1 a2 a3 a4 a5 a6 a7 a8 a9 a10 a11 a12
theorem ms_ok {f st : Nat} {s s' : ms_T} (hc : ∀ q, q < 50 → a6 q = nI (ms_at C q).1 ∧ a7 q = nI (ms_at C q).2) (h : ms_st C s = some s') (hs : st < 90000) (hP : s.2.2.length < 64)
    (hW : ms_W post n cp sd ld ol ob a1 a2 a3 a4 a5 a6 a7 a8 a9 a10 f (st + 1) s') : ms_W post n cp sd ld ol ob a1 a2 a3 a4 a5 a6 a7 a8 a9 a10 (f + 1) st s := by
  obtain ⟨q, S, P⟩ := s
  unfold ms_st at h
  split at h
  case isFalse => cases h
  case isTrue hb =>
    have hq : q < 50 := hb.1
    have hS : S.length < 15 := hb.2
    replace hP : P.length < 64 := hP
    replace h : ms_op (ms_at C q).1 (ms_at C q).2 q S P = some s' := h
    obtain ⟨ho, hv⟩ := hc q hq
    revert h ho hv
    generalize (ms_at C q).1 = o
    generalize (ms_at C q).2 = d
    intro h ho hv a11 a12 h1 h2
    replace h1 : ms_k a11 S := h1
    replace h2 : ms_k a12 P := h2
    refine br_f (nI_ge hs (by decide)) (br_f (nI_ge hq (by decide)) ?_)
    have hq' : q < 560 := by omega
    unfold ms_op at h
    split at h
    · rename_i e; subst e; cases h
      exact ms_p0 hq' ho hv (by omega) (nm_r (nI_1 st) (hW _ _ (ms_kp h1) h2))
    split at h
    · rename_i e; subst e
      split at h
      · rename_i hd; cases h
        exact ms_p1 hq' ho hv (by omega) hd (nm_r (nI_1 st) (hW _ _ (by rw [ms_kn hd h1]; exact ms_kp h1) h2))
      · cases h
    split at h
    · rename_i e; subst e
      split at h
      · rename_i hd; cases h
        have hl : (S.getD d 0 :: S.eraseIdx d).length = S.length := by
          rw [List.length_cons, List.length_eraseIdx_of_lt hd]; omega
        refine ms_p7 hq' ho hv (by omega) hd h1 (fun a11 h1 => nm_r (nI_1 st) ?_)
        have := hW a11 a12 h1 h2
        dsimp only at this
        rw [hl] at this
        exact this
      · cases h
    split at h
    · rename_i e; subst e
      split at h
      · cases h
      · cases h
        exact ms_p8 hq' ho hv (nm_r (nI_1 st) (hW _ _ h1.2 h2))
    split at h
    · rename_i e; subst e
      split at h
      · cases h
      · rename_i x R
        cases h
        have hR : R.length + 1 < 15 := hS
        exact ms_p9 hq' ho hv (by omega) hP (nm_r (nI_1 st) (hW _ _ h1.2 (by rw [h1.1]; exact ms_kp h2)))
    split at h
    · rename_i e; subst e
      split at h
      · cases h
      · rename_i x R
        cases h
        have hR : R.length + 1 < 15 := hS
        exact ms_p10 hq' ho hv (by omega) (nm_r (nI_1 st) (by rw [h1.1]; exact hW _ _ h1.2 h2))
    split at h
    · rename_i e; subst e; cases h
      exact ms_p11 hq' ho hv (nm_r (nI_1 st) (hW _ _ h1 h2))
    split at h
    · rename_i e
      unfold ms_bi at h
      split at h
      · rename_i y x R
        cases h
        have hR : R.length + 1 + 1 < 15 := hS
        have hx : a11 R.length = x := h1.2.1
        have hy : a11 (R.length + 1) = y := h1.1
        exact ms_p2 hq' e ho hv (by omega) (nm_r (nI_1 st) (hW _ _ (by rw [hx, hy]; exact ms_kp h1.2.2) h2))
      · cases h
    · cases h
def ms_run (C : List (Nat × Nat)) : Nat → ms_T → Option ms_T
  | 0, s => some s
  | k + 1, s => match ms_st C s with
    | none => none
    | some s' => ms_run C k s'
theorem ms_go (hc : ∀ q, q < 50 → a6 q = nI (ms_at C q).1 ∧ a7 q = nI (ms_at C q).2) : ∀ (k : Nat) (s s' : ms_T) (f st : Nat), ms_run C k s = some s' → st + k ≤ 90000 → s.2.2.length + k ≤ 64 → ms_W post n cp sd ld ol ob a1 a2 a3 a4 a5 a6 a7 a8 a9 a10 f (st + k) s' → ms_W post n cp sd ld ol ob a1 a2 a3 a4 a5 a6 a7 a8 a9 a10 (f + k) st s
  | 0, s, s', f, st, h, _, _, hW => by
    cases h; exact hW
  | k + 1, s, s', f, st, h, h1, h2, hW => by
    unfold ms_run at h
    split at h
    · cases h
    · rename_i t ht
      have hl : t.2.2.length ≤ s.2.2.length + 1 := by
        unfold ms_st at ht
        split at ht
        · exact ms_len ht
        · cases ht
      exact ms_ok hc ht (by omega) (by omega) (ms_go hc k t s' f (st + 1) h (by omega) (by omega) (by rw [show st + 1 + k = st + (k + 1) by omega]; exact hW))
end
section
variable {p : Nat} {x v0 v1 v2 v3 v4 v5 : Int32} {P : List Int32}
theorem sg_0 : ms_run (ms_C p) 1 (0, [v5, v4, v3, v2, v1, v0], P) = some (1, [nI p, v5, v4, v3, v2, v1, v0], P) := rfl
theorem sg_T : ms_run (ms_C p) 2 (1, [x, v5, v4, v3, v2, v1, v0], P) = some (if 0 < x then 3 else 49, [x, v5, v4, v3, v2, v1, v0], P) := rfl
theorem sg_B : ms_run (ms_C p) 10 (3, [x, v5, v4, v3, v2, v1, v0], P) = some (if 0 < ms_f 6 v0 v1 then 13 else 23, [x, v5, v4, ms_f 6 v0 v1, v2, v1, v0], P) := rfl
theorem sg_C1 : ms_run (ms_C p) 10 (13, [x, v5, v4, v3, v2, v1, v0], P) = some (36, [x, v5, v4, v3, v2, v1, v0 + v2], P) := rfl
theorem sg_C2 : ms_run (ms_C p) 13 (23, [x, v5, v4, v3, v2, v1, v0], P) = some (36, [x, v5, v0 - v1, v3, v2, v1, v0 - v1], P) := rfl
theorem sg_D : ms_run (ms_C p) 13 (36, [x, v5, v4, v3, v2, v1, v0], P) = some (1, [x + nI 4294967295, v5, v4, v3, v2, v1 ^^^ v2, v0], v0 :: P) := rfl
theorem sg_E : ms_run (ms_C p) 1 (49, [x, v5, v4, v3, v2, v1, v0], P) = some (50, [v5, v4, v3, v2, v1, v0], P) := rfl
end
end
section
/-! one pass, as the law counts it: (v0, v1, v3, v4) -/
abbrev it_T : Type := Int32 × Int32 × Int32 × Int32
def it_s (c : Int32) (q : it_T) : it_T := if q.2.1 ≤ q.1 then (q.1 - q.2.1, q.2.1 ^^^ c, 0, q.1 - q.2.1) else (q.1 + c, q.2.1 ^^^ c, 1, q.2.2.2)
def it_n (c : Int32) : Nat → it_T → it_T
  | 0, q => q
  | j + 1, q => it_n c j (it_s c q)
def it_o (c : Int32) : Nat → it_T → List Int32 → List Int32
  | 0, _, P => P
  | j + 1, q, P => it_o c j (it_s c q) ((it_s c q).1 :: P)
def it_L (c : Int32) (q : it_T) : List Int32 := [0, q.2.2.2, q.2.2.1, c, q.2.1, q.1]
theorem it_n1 (c : Int32) : ∀ (j : Nat) (q : it_T), it_n c (j + 1) q = it_s c (it_n c j q)
  | 0, _ => rfl
  | j + 1, q => it_n1 c j (it_s c q)
theorem it_ol (c : Int32) : ∀ (j : Nat) (q : it_T) (P : List Int32), (it_o c j q P).length = P.length + j
  | 0, _, _ => rfl
  | j + 1, q, P => by
    show (it_o c j (it_s c q) ((it_s c q).1 :: P)).length = _
    rw [it_ol c j]
    show P.length + 1 + j = _
    omega
theorem it_ok {a : Nat → Int32} (c : Int32) : ∀ (j : Nat) (q : it_T) (P : List Int32), ms_k a (it_o c j q P) → ms_k a P
  | 0, _, _, h => h
  | j + 1, q, P, h => (it_ok c j _ _ h).2
theorem it_og {a : Nat → Int32} (c : Int32) : ∀ (j : Nat) (q : it_T) (P : List Int32), ms_k a (it_o c j q P) → ∀ i, i < j → a (P.length + i) = (it_n c (i + 1) q).1
  | j + 1, q, P, h, 0, _ => (it_ok c j _ _ h).1
  | j + 1, q, P, h, i + 1, hi => by
    have g := it_og c j (it_s c q) _ h i (by omega)
    have e : P.length + (i + 1) = ((it_s c q).1 :: P).length + i := by
      show P.length + (i + 1) = P.length + 1 + i
      omega
    rw [e]
    exact g
theorem it_m1 (j : Nat) : nI (j + 1) + nI 4294967295 = nI j := pk_m1 j
theorem it_p0 : ¬ (0 : Int32) < nI 0 := by decide
theorem it_ps {j : Nat} (h : j + 1 < 2 ^ 31) : (0 : Int32) < nI (j + 1) := nI_lt (a := 0) (by omega) h
section
variable {post : Int32 → St2 → Prop} {n cp sd ld ol ob : Int32} {a1 a2 a3 a4 a5 a6 a7 a8 a9 a10 : Nat → Int32} {p : Nat}
theorem it_1 {x c : Int32} {q : it_T} {P : List Int32} {st : Nat} (hc : ∀ q, q < 50 → a6 q = nI (ms_at (ms_C p) q).1 ∧ a7 q = nI (ms_at (ms_C p) q).2) (hx : 0 < x) (hs : st + 38 ≤ 90000) (hP : P.length + 38 ≤ 64)
    (H : ∀ st', st ≤ st' → st' ≤ st + 38 → ∃ f, ms_W post n cp sd ld ol ob a1 a2 a3 a4 a5 a6 a7 a8 a9 a10 f st' (1, (x + nI 4294967295) :: it_L c (it_s c q), (it_s c q).1 :: P)) : ∃ f, ms_W post n cp sd ld ol ob a1 a2 a3 a4 a5 a6 a7 a8 a9 a10 f st (1, x :: it_L c q, P) := by
  have z0 : ¬ (0 : Int32) < 0 := by decide
  have z1 : (0 : Int32) < 1 := by decide
  by_cases hv : q.2.1 ≤ q.1
  · have e : it_s c q = (q.1 - q.2.1, q.2.1 ^^^ c, 0, q.1 - q.2.1) := if_pos hv
    rw [e] at H
    obtain ⟨f, hf⟩ := H (st + 2 + 10 + 13 + 13) (by omega) (by omega)
    have e6 : ms_f 6 q.1 q.2.1 = 0 := if_pos hv
    refine ⟨f + 13 + 13 + 10 + 2, ms_go hc 2 _ _ _ st sg_T (by omega) (by show P.length + 2 ≤ 64; omega) ?_⟩
    rw [if_pos hx]
    refine ms_go hc 10 _ _ _ (st + 2) sg_B (by omega) (by show P.length + 10 ≤ 64; omega) ?_
    rw [e6, if_neg z0]
    refine ms_go hc 13 _ _ _ (st + 2 + 10) sg_C2 (by omega) (by show P.length + 13 ≤ 64; omega) ?_
    exact ms_go hc 13 _ _ _ (st + 2 + 10 + 13) sg_D (by omega) (by show P.length + 13 ≤ 64; omega) hf
  · have e : it_s c q = (q.1 + c, q.2.1 ^^^ c, 1, q.2.2.2) := if_neg hv
    rw [e] at H
    obtain ⟨f, hf⟩ := H (st + 2 + 10 + 10 + 13) (by omega) (by omega)
    have e6 : ms_f 6 q.1 q.2.1 = 1 := if_neg hv
    refine ⟨f + 13 + 10 + 10 + 2, ms_go hc 2 _ _ _ st sg_T (by omega) (by show P.length + 2 ≤ 64; omega) ?_⟩
    rw [if_pos hx]
    refine ms_go hc 10 _ _ _ (st + 2) sg_B (by omega) (by show P.length + 10 ≤ 64; omega) ?_
    rw [e6, if_pos z1]
    refine ms_go hc 10 _ _ _ (st + 2 + 10) sg_C1 (by omega) (by show P.length + 10 ≤ 64; omega) ?_
    exact ms_go hc 13 _ _ _ (st + 2 + 10 + 10) sg_D (by omega) (by show P.length + 13 ≤ 64; omega) hf
theorem it_all {c : Int32} (hc : ∀ q, q < 50 → a6 q = nI (ms_at (ms_C p) q).1 ∧ a7 q = nI (ms_at (ms_C p) q).2) : ∀ (j : Nat) (q : it_T) (P : List Int32) (st : Nat), j + P.length ≤ 10 → st + 40 * j + 10 ≤ 90000 →
    (∀ st', st' < 90000 → ms_W post n cp sd ld ol ob a1 a2 a3 a4 a5 a6 a7 a8 a9 a10 1 st' (50, it_L c (it_n c j q), it_o c j q P)) → ∃ f, ms_W post n cp sd ld ol ob a1 a2 a3 a4 a5 a6 a7 a8 a9 a10 f st (1, nI j :: it_L c q, P)
  | 0, q, P, st, h1, h2, H => by
    refine ⟨1 + 1 + 2, ms_go hc 2 _ _ _ st sg_T (by omega) (by show P.length + 2 ≤ 64; omega) ?_⟩
    rw [if_neg it_p0]
    exact ms_go hc 1 _ _ _ (st + 2) sg_E (by omega) (by show P.length + 1 ≤ 64; omega) (H _ (by omega))
  | j + 1, q, P, st, h1, h2, H => by
    refine it_1 hc (it_ps (by omega)) (by omega) (by omega) (fun st' _ h4 => ?_)
    rw [it_m1]
    exact it_all hc j (it_s c q) _ st' (by show j + (P.length + 1) ≤ 10; omega) (by omega) H
end
section
variable {post : Int32 → St2 → Prop} {n cp sd ce ld ol ob dp pc : Int32} {a1 a2 a3 a4 a5 a6 a7 a8 a9 a10 a11 a12 : Nat → Int32}
theorem rn_fill {f s : Nat → Int32} {i k : Nat} {x : Int32} (hk : k = i) (h : ∀ j, j < i → s j = f j) (hx : x = f i) : ∀ j, j < i + 1 → upd s k x j = f j := by
  intro j hj
  rw [hk]
  by_cases e : j = i
  · rw [e, pk_us, hx]
  · rw [pk_un e]
    exact h j (by omega)
theorem rn_16 (H : ∀ a11, (∀ j, j < 6 → a11 j = a5 j) → ∃ fu, wX_run_55 post fu 0 0 n cp sd ce ld ol ob 6 0 a1 a2 a3 a4 a5 a6 a7 a8 a9 a10 a11 a12) : ∃ fu, wX_run_16 post n cp sd ce ld ol ob dp pc fu 0 a1 a2 a3 a4 a5 a6 a7 a8 a9 a10 a11 a12 :=
  pk_loop (fun f i s => wX_run_16 post n cp sd ce ld ol ob dp pc f (nI i) a1 a2 a3 a4 a5 a6 a7 a8 a9 a10 s a12) (fun i s => ∀ j, j < i → s j = a5 j) 6 0 a11 (by omega) (fun j hj => absurd hj (by omega))
    (fun f s h => pk_le 6 6 (fun _ => H s h) (fun z => absurd z (by omega)))
    (fun f i s hi h hw => pk_le 6 i (fun z => absurd z (by omega)) (fun _ => ⟨pk_in i 6 (by omega), pk_in i 16 (by omega), nm_e (nm_r (nI_1 i) (hw _ (rn_fill (nI_clamp (by omega)) h (by rw [nI_clamp (by omega)]))))⟩))
theorem rn_83 (H : ∀ a5, (∀ j, j < 6 → a5 j = a11 j) → post pc (n, cp, sd, ce, ld, ol, ob, dp, pc, a1, a2, a3, a4, a5, a6, a7, a8, a9, a10, a11, a12)) : ∃ fu, wX_run_83 post n cp sd ce ld ol ob dp pc fu 0 a1 a2 a3 a4 a5 a6 a7 a8 a9 a10 a11 a12 :=
  pk_loop (fun f i s => wX_run_83 post n cp sd ce ld ol ob dp pc f (nI i) a1 a2 a3 a4 s a6 a7 a8 a9 a10 a11 a12) (fun i s => ∀ j, j < i → s j = a11 j) 6 0 a5 (by omega) (fun j hj => absurd hj (by omega))
    (fun f s h => pk_le 6 6 (fun _ => H s h) (fun z => absurd z (by omega)))
    (fun f i s hi h hw => pk_le 6 i (fun z => absurd z (by omega)) (fun _ => ⟨pk_in i 16 (by omega), pk_in i 6 (by omega), nm_e (nm_r (nI_1 i) (hw _ (rn_fill (nI_clamp (by omega)) h (by rw [nI_clamp (by omega)]))))⟩))
/-- the variables -/
def rn_V (a5 : Nat → Int32) (c : Int32) (q : it_T) : Prop := a5 0 = q.1 ∧ a5 1 = q.2.1 ∧ a5 2 = c ∧ a5 3 = q.2.2.1 ∧ a5 4 = q.2.2.2 ∧ a5 5 = 0
theorem rn_all {p : Nat} {c : Int32} {q : it_T} (hp : p < 6) (hc : ∀ q, q < 50 → a6 q = nI (ms_at (ms_C p) q).1 ∧ a7 q = nI (ms_at (ms_C p) q).2) (h5 : rn_V a5 c q)
    (H : ∀ dp a5 a11 a12, rn_V a5 c (it_n c p q) → (∀ i, i < p → a12 i = (it_n c (i + 1) q).1) → post (nI p) (n, cp, sd, 50, ld, ol, ob, dp, nI p, a1, a2, a3, a4, a5, a6, a7, a8, a9, a10, a11, a12)) :
    ∃ fu, wX_run_16 post n cp sd 50 ld ol ob dp pc fu 0 a1 a2 a3 a4 a5 a6 a7 a8 a9 a10 a11 a12 := by
  refine rn_16 (fun a11 h => ?_)
  obtain ⟨e0, e1, e2, e3, e4, e5⟩ := h5
  have hk : ms_k a11 (it_L c q) := ⟨(h 5 (by omega)).trans e5, (h 4 (by omega)).trans e4, (h 3 (by omega)).trans e3, (h 2 (by omega)).trans e2, (h 1 (by omega)).trans e1, (h 0 (by omega)).trans e0, trivial⟩
  obtain ⟨f, hf⟩ := it_all (post := post) (n := n) (cp := cp) (sd := sd) (ld := ld) (ol := ol) (ob := ob) (a1 := a1) (a2 := a2) (a3 := a3) (a4 := a4) (a5 := a5) (a8 := a8) (a9 := a9) (a10 := a10) (c := c) hc p q [] (0 + 1) (by show p + 0 ≤ 10; omega) (by omega) (fun st' hs a11 a12 h1 h2 => by
    have hl : (it_o c p q []).length = p := by rw [it_ol]; exact Nat.zero_add p
    refine br_f (nI_ge hs (by decide)) (br_t (show (50 : Int32) ≤ nI 50 by decide) (rn_83 (fun a5 hh => ?_)))
    have := H (nI (it_L c (it_n c p q)).length) a5 a11 a12 ⟨(hh 0 (by omega)).trans h1.2.2.2.2.2.1, (hh 1 (by omega)).trans h1.2.2.2.2.1, (hh 2 (by omega)).trans h1.2.2.2.1, (hh 3 (by omega)).trans h1.2.2.1, (hh 4 (by omega)).trans h1.2.1, (hh 5 (by omega)).trans h1.1⟩ (fun i hi => by
      have := it_og c p q [] h2 i hi
      rw [← this]
      congr 1
      exact (Nat.zero_add i).symm)
    dsimp only
    rw [hl]
    exact this)
  exact ⟨f + 1, ms_go hc 1 _ _ f 0 sg_0 (by omega) (by show 0 + 1 ≤ 64; omega) hf a11 a12 hk trivial⟩
end
end
section
section
variable {n cp sd ce ld ol ob dp pc : Int32} {a1 a2 a3 a4 a5 a6 a7 a8 a9 a10 a11 a12 : Nat → Int32}
theorem la_var {ps : Int32 → Prop} (i : Nat) (hi : i < 6) {v : Int32} (hv : a5 i = v) (H : ps v) : wpX_variable ps (n, cp, sd, ce, ld, ol, ob, dp, pc, a1, a2, a3, a4, a5, a6, a7, a8, a9, a10, a11, a12) (nI i) :=
  br_f (nI_pos (by omega)) (br_t (nI_le (b := 5) (by omega) (by decide)) ⟨pk_in i 6 hi, by rw [nI_clamp (by omega), hv]; exact H⟩)
theorem la_out {ps : Int32 → Prop} {p i : Nat} (hp : p < 6) (hi : i < p) (H : ps (a12 i)) : wpX_output ps (n, cp, sd, ce, ld, ol, ob, dp, nI p, a1, a2, a3, a4, a5, a6, a7, a8, a9, a10, a11, a12) (nI i) :=
  br_f (nI_pos (by omega)) (br_f (nI_ge hi (by omega)) (br_t (nI_lt (b := 64) (by omega) (by decide)) ⟨pk_in i 64 (by omega), by rw [nI_clamp (by omega)]; exact H⟩))
theorem la_put {ps : Int32 → St2 → Prop} (i : Nat) (hi : i < 6) {v : Int32} (H : ps 1 (n, cp, sd, ce, ld, ol, ob, dp, pc, a1, a2, a3, a4, upd a5 i v, a6, a7, a8, a9, a10, a11, a12)) : wpX_put ps (n, cp, sd, ce, ld, ol, ob, dp, pc, a1, a2, a3, a4, a5, a6, a7, a8, a9, a10, a11, a12) (nI i) v :=
  br_f (nI_pos (by omega)) (br_t (nI_le (b := 5) (by omega) (by decide)) ⟨pk_in i 6 hi, nm_r (e' := upd a5 i v) (by rw [nI_clamp (by omega)]) H⟩)
theorem la_init {ps : St2 → Prop} (H : ps (0, 0, 0, 0, 0, 0, 0, 0, 0, ev_g [], ev_g [], ev_g [], ev_g [], ev_g [], ev_g [], ev_g [], ev_g [], ev_g [], ev_g [], ev_g [], ev_g [])) : wpX_init ps 12 1390 (0, 0, 0, 0, 0, 0, 0, 0, 0) :=
  ⟨by omega, by omega, by omega, by omega, by omega, by omega, by omega, by omega, by omega, by omega, by omega, by omega, by omega, by omega, by omega, by omega, by omega, by omega, by omega, by omega, by omega, by omega, by omega, by omega, H⟩
theorem la_cell {ps : Int32 → Prop} {L : Nat} {xs : Nat → Int32} (i : Nat) (hi : i < 4) (hL : L ≤ 4) (H : ∀ r, ps r) : wpL_cellAt ps L xs () (nI i) :=
  pk_le L i (fun _ => H 0) (fun z => ⟨pk_in i L z, H _⟩)
/-! the law's loops -/
variable {post : Int32 → St0 → Prop} {mc ms kc ks : Nat} {c x10 : Int32}
theorem la_233 {J : Int32 → Int32 → Int32 → Int32 → Int32 → Int32 → Int32 → Int32 → Int32 → Int32 → Int32 → Int32 → Int32 → Int32 → (Nat → Int32) → (Nat → Int32) → (Nat → Int32) → (Nat → Int32) → (Nat → Int32) → (Nat → Int32) → (Nat → Int32) → (Nat → Int32) → (Nat → Int32) → (Nat → Int32) → (Nat → Int32) → (Nat → Int32) → Prop} {p : Nat} {q : it_T} (hp : p < 6) (h12 : ∀ i, i < p → a12 i = (it_n c (i + 1) q).1) (h5 : rn_V a5 c (it_n c p q))
    (HJ : J (it_n c p q).1 (it_n c p q).2.1 (it_n c p q).2.2.1 (it_n c p q).2.2.2 (x10 + 1) n cp sd ce ld ol ob dp (nI p) a1 a2 a3 a4 a5 a6 a7 a8 a9 a10 a11 a12) :
    ∃ fu, wL_lawOf_233 post mc ms J c (nI p) x10 kc ks n cp sd ce ld ol ob dp (nI p) a1 a2 a3 a4 a5 a6 a7 a8 a9 a10 a11 a12 fu q.1 q.2.1 q.2.2.1 q.2.2.2 0 := by
  refine pk_loop (fun f i (s : it_T) => wL_lawOf_233 post mc ms J c (nI p) x10 kc ks n cp sd ce ld ol ob dp (nI p) a1 a2 a3 a4 a5 a6 a7 a8 a9 a10 a11 a12 f s.1 s.2.1 s.2.2.1 s.2.2.2 (nI i)) (fun i s => s = it_n c (min i p) q) 5 0 q (by omega) ?_ ?_ ?_
  · rw [Nat.zero_min]; rfl
  · intro f s hs
    rw [show min 5 p = p by omega] at hs
    subst hs
    obtain ⟨e0, e1, e2, e3, e4, e5⟩ := h5
    exact pk_le 5 5 (fun _ => la_var 0 (by omega) e0 (br_t rfl (la_var 1 (by omega) e1 (br_t rfl (la_var 2 (by omega) e2 (br_t rfl (la_var 3 (by omega) e3 (br_t rfl (la_var 4 (by omega) e4 (br_t rfl (la_var 5 (by omega) e5 (br_t rfl (nm_e HJ)))))))))))))
      (fun z => absurd z (by omega))
  · intro f i s hi hs hw
    refine pk_le 5 i (fun z => absurd z (by omega)) (fun _ => pk_le p i (fun z => nm_r (nI_1 i) (hw s ?_)) (fun z => ?_))
    · rw [hs, show min i p = min (i + 1) p by omega]
    · have hs' : s = it_n c i q := by rw [hs, show min i p = i by omega]
      have hn : it_n c (min (i + 1) p) q = it_s c s := by rw [show min (i + 1) p = i + 1 by omega, it_n1, hs']
      have ho : a12 i = (it_s c s).1 := by rw [h12 i z, it_n1, hs']
      by_cases hv : s.2.1 ≤ s.1
      · have e : it_s c s = (s.1 - s.2.1, s.2.1 ^^^ c, 0, s.1 - s.2.1) := if_pos hv
        rw [e] at hn ho
        exact br_t hv (br_t (by decide) (nm_e (la_out hp z (br_t ho (nm_e (nm_r (nI_1 i) (hw (s.1 - s.2.1, s.2.1 ^^^ c, 0, s.1 - s.2.1) hn.symm)))))))
      · have e : it_s c s = (s.1 + c, s.2.1 ^^^ c, 1, s.2.2.2) := if_neg hv
        rw [e] at hn ho
        exact br_f hv (br_f (by decide) (nm_e (la_out hp z (br_t ho (nm_e (nm_r (nI_1 i) (hw (s.1 + c, s.2.1 ^^^ c, 1, s.2.2.2) hn.symm)))))))
/-- the second round: compiled already -/
theorem la_2 {p : Nat} {q : it_T} (hp : p < 6) (hc : ∀ q, q < 50 → a6 q = nI (ms_at (ms_C p) q).1 ∧ a7 q = nI (ms_at (ms_C p) q).2) (h5 : rn_V a5 c q) (H : post 1 ()) :
    wL_lawOf_202 post mc ms c (nI p) kc ks 2 q.1 q.2.1 q.2.2.1 q.2.2.2 (0 + 1) n (1) (1) (50) ld ol ob dp pc a1 a2 a3 a4 a5 a6 a7 a8 a9 a10 a11 a12 :=
  br_f (by decide) (br_f (by decide) (br_f (by decide) (rn_all hp hc h5 (fun dp a5 a11 a12 h5 h12 => br_t rfl (br_t rfl (la_233 hp h12 h5 (br_t (by decide) H)))))))
end
theorem la_C {p : Nat} : ∀ q, q < 50 → ev_g ((ms_C p).map (fun x => nI x.1)) q = nI (ms_at (ms_C p) q).1 ∧ ev_g ((ms_C p).map (fun x => nI x.2)) q = nI (ms_at (ms_C p) q).2 :=
  fun q h => ⟨ms_g1 _ q h, ms_g2 _ q h⟩
section
variable {sd dp pc : Int32} {a5 a11 a12 : Nat → Int32} {post : Int32 → St0 → Prop} {mc ms kc ks : Nat} {c : Int32}
/-- the first run: not sound -/
theorem la_r0 {ps : Int32 → St2 → Prop} {p : Nat} (hp : p < 6) (H : ps (-3) (7, 1, 0, 0, 0, 0, 0, dp, pc, ev_g (sr_K.take 7), ev_g ((sr_F p).take 7), ev_g (sr_S.take 7), ev_g (sr_T.take 7), a5, ev_g [], ev_g [], ev_g [], ev_g [10, 9], ev_g [], a11, a12)) :
    wpX_run ps (7, 0, sd, 0, 0, 0, 0, dp, pc, ev_g (sr_K.take 7), ev_g ((sr_F p).take 7), ev_g (sr_S.take 7), ev_g (sr_T.take 7), a5, ev_g [], ev_g [], ev_g [], ev_g [], ev_g [], a11, a12) := by
  unfold wpX_run
  dsimp only
  refine ev_co_ok (sr_2 p hp) (fun r ce ld ol ob A6 A7 A8 A9 A10 h => ?_)
  obtain ⟨e1, e2, e3, e4, e5, e6, e7, e8, e9, e10, _⟩ := of_decide_eq_true h
  clear h
  subst e1 e2 e3 e4 e5 e6 e7 e8 e9 e10
  exact br_t rfl H
/-- the first run of the whole source: compiles -/
theorem la_r1 {ps : Int32 → St2 → Prop} {p : Nat} {q : it_T} (hp : p < 6) (h5 : rn_V a5 c q) (H : ∀ ld ol ob dp A8 A9 A10 a5 a11 a12, rn_V a5 c (it_n c p q) → (∀ i, i < p → a12 i = (it_n c (i + 1) q).1) → ps (nI p) (11, 1, 1, 50, ld, ol, ob, dp, nI p, ev_g sr_K, ev_g (sr_F p), ev_g sr_S, ev_g sr_T, a5, ev_g ((ms_C p).map (fun x => nI x.1)), ev_g ((ms_C p).map (fun x => nI x.2)), A8, A9, A10, a11, a12)) :
    wpX_run ps (11, 0, sd, 0, 0, 0, 0, dp, pc, ev_g sr_K, ev_g (sr_F p), ev_g sr_S, ev_g sr_T, a5, ev_g [], ev_g [], ev_g [], ev_g [10, 9], ev_g [], a11, a12) := by
  unfold wpX_run
  dsimp only
  refine ev_co_ok (sr_4 p hp) (fun r ce ld ol ob A6 A7 A8 A9 A10 h => ?_)
  obtain ⟨e1, e2, e3, e4⟩ := of_decide_eq_true h
  clear h
  subst e1 e2 e3 e4
  exact br_f (show ¬ (1 : Int32) = 0 by decide) (rn_all hp la_C h5 (fun dp a5 a11 a12 h5 h12 => H _ _ _ _ _ _ _ _ _ _ h5 h12))
/-- the first round -/
theorem la_1 {p : Nat} {q : it_T} (hp : p < 6) (h5 : rn_V a5 c q) (H : post 1 ()) :
    wL_lawOf_202 post mc ms c (nI p) kc ks 3 q.1 q.2.1 q.2.2.1 q.2.2.2 0 11 0 sd 0 0 0 0 dp pc (ev_g sr_K) (ev_g (sr_F p)) (ev_g sr_S) (ev_g sr_T) a5 (ev_g []) (ev_g []) (ev_g []) (ev_g [10, 9]) (ev_g []) a11 a12 :=
  br_f (by decide) (la_r1 hp h5 (fun ld ol ob dp A8 A9 A10 a5 a11 a12 h5 h12 => br_t rfl (br_t rfl (la_233 hp h12 h5 (la_2 hp la_C h5 H)))))
end
theorem la_law {post : Int32 → St0 → Prop} (x0 x1 x2 x3 : Int32) (H : post 1 ()) : wpL_lawOf post 468 7488 () x0 x1 x2 x3 := by
  obtain ⟨p, hp, e⟩ : ∃ p, p < 6 ∧ (x0 &&& 255) - (x0 &&& 255) / 6 * 6 = nI p := by
    refine ⟨x0.toBitVec.toNat % 2 ^ 8 % 6, Nat.mod_lt _ (by decide), ?_⟩
    rw [pk_and x0 8 (m := 255) rfl]
    exact pk_rem (d := 6) (Nat.lt_trans (Nat.mod_lt _ (by decide)) (by decide)) (by decide) (by decide)
  refine ⟨by decide, nm_r e ⟨by omega, by omega, 12, 1390, by omega, by omega, la_init (la_put 0 (by omega) (la_put 1 (by omega) (la_put 2 (by omega) ?_)))⟩⟩
  have hV : rn_V (upd (upd (upd (ev_g []) 0 x1) 1 x2) 2 x3) x3 (x1, x2, 0, 0) := ⟨rfl, rfl, rfl, rfl, rfl, rfl⟩
  refine ev_ad_ok (sr_1 p hp) (fun n K F S T h => ev_ad_ok h (fun n K F S T h => ev_ad_ok h (fun n K F S T h => ev_ad_ok h (fun n K F S T h => ev_ad_ok h (fun n K F S T h => ev_ad_ok h (fun n K F S T h => ev_ad_ok h (fun n K F S T h => ?_)))))))
  obtain ⟨e1, e2, e3, e4, e5⟩ := of_decide_eq_true h
  clear h
  subst e1 e2 e3 e4 e5
  refine la_r0 hp (br_t rfl (br_t rfl (ev_ad_ok (sr_3 p hp) (fun n K F S T h => ev_ad_ok h (fun n K F S T h => ev_ad_ok h (fun n K F S T h => ev_ad_ok h (fun n K F S T h => ?_)))))))
  obtain ⟨e1, e2, e3, e4, e5⟩ := of_decide_eq_true h
  clear h
  subst e1 e2 e3 e4 e5
  exact br_t rfl ⟨3, la_1 (q := (x1, x2, 0, 0)) hp hV H⟩
theorem i_vc (xs : Nat → Int32) (L : Nat) (hL : L ≤ 4) : wpL_law (fun r => r = 1) L xs :=
  la_cell 0 (by omega) hL (fun r1 => la_cell 1 (by omega) hL (fun r2 => la_cell 2 (by omega) hL (fun r3 => la_cell 3 (by omega) hL (fun r4 => ⟨468, 7488, by omega, by omega, la_law r1 r2 r3 r4 rfl⟩))))
end
