section
/-! BundleAssembler: slots. Rows over the packing's small methods: claim, closeBundle, putIntoSlot, endGroup, mustStop -/
section
variable {ct bn pk op fr ft wr gs ap fs tk : Int32} {a1 a2 a3 a4 a5 a6 a7 a8 a9 a10 a11 a12 a13 a14 : Nat → Int32}
/-- the templates -/
def ba_tm (t : Nat) : Int32 := [145, 137, 273, 265, 289, 292].getD t 0
/-- the templates that are left when slot s is asked for the units un -/
def ba_L (ft s un : Int32) : Nat → Int32
  | 0 => 0
  | t + 1 => if ((ft >>> (nI t &&& 31)) &&& 1) = 1 ∧ ¬ ((((ba_tm t) >>> ((3 * s) &&& 31)) &&& 7) &&& un) = 0 then ba_L ft s un t ||| ((1 : Int32) <<< (nI t &&& 31)) else ba_L ft s un t
theorem ba_Ls {ft s un : Int32} {t : Nat} (h : ((ft >>> (nI t &&& 31)) &&& 1) = 1) (h2 : ¬ ((((ba_tm t) >>> ((3 * s) &&& 31)) &&& 7) &&& un) = 0) : ba_L ft s un t ||| ((1 : Int32) <<< (nI t &&& 31)) = ba_L ft s un (t + 1) := by
  rw [ba_L, if_pos ⟨h, h2⟩]
theorem ba_Ln {ft s un : Int32} {t : Nat} (h : ¬ (((ft >>> (nI t &&& 31)) &&& 1) = 1 ∧ ¬ ((((ba_tm t) >>> ((3 * s) &&& 31)) &&& 7) &&& un) = 0)) : ba_L ft s un t = ba_L ft s un (t + 1) := by
  rw [ba_L, if_neg h]
theorem ba_claim {post : Int32 → St2 → Prop} {i : Nat} {s un lf : Int32} (hi : i < 24) (ht : ∀ t, t < 6 → a5 t = ba_tm t) (hl : ba_L ft s un 6 = lf) (h0 : ¬ lf = 0)
    (H : post 1 (ct, bn, pk, op, s + 1, lf, wr, gs, ap, fs, tk, a1, a2, a3, a4, a5, a6, upd a7 i (3 * op + s), a8, a9, a10, a11, a12, a13, a14)) : wpX_claim post (ct, bn, pk, op, fr, ft, wr, gs, ap, fs, tk, a1, a2, a3, a4, a5, a6, a7, a8, a9, a10, a11, a12, a13, a14) (nI i) s un := by
  refine pk_loop (fun n k x => wX_claim_6 post (nI i) s un ct bn pk op fr ft wr gs ap fs tk a1 a2 a3 a4 a5 a6 a7 a8 a9 a10 a11 a12 a13 a14 n x (nI k)) (fun k x => x = ba_L ft s un k) 6 0 0 (by omega) rfl ?_ ?_
  · intro n x h
    have e : x = lf := by rw [h, hl]
    subst e
    refine br_t (by decide) (br_f h0 (nm_e (And.intro (pk_in i 24 hi) ?_)))
    refine nm_r (e' := upd a7 i (3 * op + s)) ?_ H
    rw [nI_clamp (by omega)]
  · intro n k x hk h hw
    refine br_f (nI_ge (b := 6) hk (by decide)) (And.intro (pk_in k 6 hk) ?_)
    refine nm_r (e' := ((ba_tm k >>> ((3 * s) &&& 31)) &&& 7)) (by rw [nI_clamp (by omega), ht k hk]) ?_
    refine br_c (fun c => br_c (fun d => nm_r (nI_1 k) (hw _ ?_)) (fun d => nm_e (nm_r (nI_1 k) (hw _ ?_)))) (fun c => nm_r (nI_1 k) (hw _ ?_))
    · rw [h]
      exact ba_Ln (fun z => z.2 d)
    · rw [h]
      exact ba_Ls c d
    · rw [h]
      exact ba_Ln (fun z => c z.1)
theorem ba_close {post : St2 → Prop} {o t : Nat} (ho : op = nI o) (hO : o < 24) (ht : t ≤ 5) (h1 : ∀ j, j < t → ((ft >>> (nI j &&& 31)) &&& 1) = 0) (h2 : t < 5 → ¬ ((ft >>> (nI t &&& 31)) &&& 1) = 0)
    (H : post (ct, bn, pk, -1, fr, ft, wr, gs, ap, fs, tk, a1, a2, a3, a4, a5, a6, a7, a8, a9, upd a10 o (nI t), a11, a12, a13, a14)) : wpX_closeBundle post (ct, bn, pk, op, fr, ft, wr, gs, ap, fs, tk, a1, a2, a3, a4, a5, a6, a7, a8, a9, a10, a11, a12, a13, a14) := by
  subst ho
  have X : wX_closeBundle_32 post (nI t) ct bn pk (nI o) fr ft wr gs ap fs tk a1 a2 a3 a4 a5 a6 a7 a8 a9 a10 a11 a12 a13 a14 := And.intro (pk_in o 24 hO) (nm_r (e' := upd a10 o (nI t)) (by rw [nI_clamp (by omega)]) H)
  refine br_t (nI_pos' (by omega)) ?_
  refine pk_loop (σ := Unit) (fun n k _ => wX_closeBundle_10 post ct bn pk (nI o) fr ft wr gs ap fs tk a1 a2 a3 a4 a5 a6 a7 a8 a9 a10 a11 a12 a13 a14 n (nI k)) (fun _ _ => True) t 0 () (by omega) trivial ?_ ?_
  · intro n _ _
    exact pk_le 5 t (fun _ => X) (fun z => br_f (h2 z) X)
  · intro n k _ hk _ hw
    exact pk_le 5 k (fun z => absurd z (by omega)) (fun _ => br_t (h1 k hk) (nm_r (nI_1 k) (hw () trivial)))
theorem ba_close0 {post : St2 → Prop} (ho : op < 0) (H : post (ct, bn, pk, op, fr, ft, wr, gs, ap, fs, tk, a1, a2, a3, a4, a5, a6, a7, a8, a9, a10, a11, a12, a13, a14)) : wpX_closeBundle post (ct, bn, pk, op, fr, ft, wr, gs, ap, fs, tk, a1, a2, a3, a4, a5, a6, a7, a8, a9, a10, a11, a12, a13, a14) :=
  br_f (fun z => Int32.lt_irrefl (Int32.lt_of_le_of_lt z ho)) H
def ba_un (k : Int32) : Int32 := if k < 9 then (if k < 7 then (if k = 4 then 2 else if k = 5 then 2 else 3) else 1) else 4
theorem ba_units {post : Int32 → Prop} {x un : Int32} (hx : ba_un x = un) (H : post un) : wpX_unitsFor post () x := by
  subst hx
  unfold ba_un at H
  refine br_c (fun c => br_c (fun d => br_c (fun e => ?_) (fun e => br_c (fun f => ?_) (fun f => ?_))) (fun d => ?_)) (fun c => ?_)
  · rw [if_pos c, if_pos d, if_pos e] at H
    exact H
  · rw [if_pos c, if_pos d, if_neg e, if_pos f] at H
    exact H
  · rw [if_pos c, if_pos d, if_neg e, if_neg f] at H
    exact H
  · rw [if_pos c, if_neg d] at H
    exact H
  · rw [if_neg c] at H
    exact H
/-- a slot of the bundle at hand is taken -/
theorem ba_put1 {post : St2 → Prop} {i o s : Nat} {k un lf : Int32} (hi : i < 24) (hk : a1 i = k) (hu : ba_un k = un) (ho : op = nI o) (hO : o < 24) (hs : fr = nI s) (hS : s < 3) (ht : ∀ t, t < 6 → a5 t = ba_tm t) (hl : ba_L ft (nI s) un 6 = lf) (h0 : ¬ lf = 0)
    (H : post (ct, bn, pk, op, nI (s + 1), lf, wr, gs, ap, fs, tk, a1, a2, a3, a4, a5, a6, upd a7 i (nI (3 * o + s)), a8, a9, a10, a11, a12, a13, a14)) : wpX_putIntoSlot post (ct, bn, pk, op, fr, ft, wr, gs, ap, fs, tk, a1, a2, a3, a4, a5, a6, a7, a8, a9, a10, a11, a12, a13, a14) (nI i) := by
  subst ho hs
  refine And.intro (pk_in i 24 hi) (ba_units (un := un) (by rw [nI_clamp (by omega), hk, hu]) (br_f (nI_pos (by omega)) ⟨0 + 1, br_f (nI_ge (b := 3) hS (by decide)) (ba_claim hi ht hl h0 (br_f (by decide) ?_))⟩))
  have e : (3 : Int32) * nI o + nI s = nI (3 * o + s) := by
    rw [← nI_add, ← pk_mul]
    rfl
  rw [e, nI_1]
  exact H
theorem ba_put48 {post : St2 → Prop} {i b : Nat} {un lf : Int32} (hi : i < 24) (hb : bn = nI b) (ht : ∀ t, t < 6 → a5 t = ba_tm t) (hl : ba_L 63 (nI 0) un 6 = lf) (h0 : ¬ lf = 0)
    (H : post (ct, nI (b + 1), pk, nI b, nI 1, lf, wr, gs, ap, fs, tk, a1, a2, a3, a4, a5, a6, upd a7 i (nI (3 * b)), a8, a9, a10, a11, a12, a13, a14)) : wX_putIntoSlot_48 post (nI i) un ct bn pk op fr ft wr gs ap fs tk a1 a2 a3 a4 a5 a6 a7 a8 a9 a10 a11 a12 a13 a14 := by
  subst hb
  refine nm_r (nI_1 b) ⟨0 + 1, br_f (by decide) (ba_claim (s := nI 0) hi ht hl h0 (br_f (by decide) ?_))⟩
  have e : (3 : Int32) * nI b + nI 0 = nI (3 * b) := by
    rw [show (3 : Int32) = nI 3 from rfl, pk_mul, nI_add]
    rfl
  rw [e, nI_1]
  exact H
/-- no bundle is at hand: one is begun -/
theorem ba_put2 {post : St2 → Prop} {i b : Nat} {k un lf : Int32} (hi : i < 24) (hk : a1 i = k) (hu : ba_un k = un) (ho : op < 0) (hb : bn = nI b) (ht : ∀ t, t < 6 → a5 t = ba_tm t) (hl : ba_L 63 (nI 0) un 6 = lf) (h0 : ¬ lf = 0)
    (H : post (ct, nI (b + 1), pk, nI b, nI 1, lf, wr, gs, ap, fs, tk, a1, a2, a3, a4, a5, a6, upd a7 i (nI (3 * b)), a8, a9, a10, a11, a12, a13, a14)) : wpX_putIntoSlot post (ct, bn, pk, op, fr, ft, wr, gs, ap, fs, tk, a1, a2, a3, a4, a5, a6, a7, a8, a9, a10, a11, a12, a13, a14) (nI i) :=
  And.intro (pk_in i 24 hi) (ba_units (un := un) (by rw [nI_clamp (by omega), hk, hu]) (br_t ho (ba_put48 hi hb ht hl h0 H)))
/-- the bundle at hand is full: it is closed, and another is begun -/
theorem ba_put3 {post : St2 → Prop} {i b o t : Nat} {k un lf : Int32} (hi : i < 24) (hk : a1 i = k) (hu : ba_un k = un) (ho : op = nI o) (hO : o < 24) (hs : fr = nI 3) (ht5 : t ≤ 5) (h1 : ∀ j, j < t → ((ft >>> (nI j &&& 31)) &&& 1) = 0) (h2 : t < 5 → ¬ ((ft >>> (nI t &&& 31)) &&& 1) = 0)
    (hb : bn = nI b) (ht : ∀ t, t < 6 → a5 t = ba_tm t) (hl : ba_L 63 (nI 0) un 6 = lf) (h0 : ¬ lf = 0)
    (H : post (ct, nI (b + 1), pk, nI b, nI 1, lf, wr, gs, ap, fs, tk, a1, a2, a3, a4, a5, a6, upd a7 i (nI (3 * b)), a8, a9, upd a10 o (nI t), a11, a12, a13, a14)) : wpX_putIntoSlot post (ct, bn, pk, op, fr, ft, wr, gs, ap, fs, tk, a1, a2, a3, a4, a5, a6, a7, a8, a9, a10, a11, a12, a13, a14) (nI i) := by
  subst ho hs
  exact And.intro (pk_in i 24 hi) (ba_units (un := un) (by rw [nI_clamp (by omega), hk, hu]) (br_f (nI_pos (by omega)) ⟨0 + 1, br_t (by decide) (ba_close rfl hO ht5 h1 h2 (ba_put48 hi hb ht hl h0 H))⟩))
theorem ba_end0 {post : St2 → Prop} (H : post (ct, bn, pk, op, fr, ft, 0, nI 0, ap, fs, tk, a1, a2, a3, a4, a5, a6, a7, a8, a9, a10, a11, a12, a13, a14)) : wpX_endGroup post (ct, bn, pk, op, fr, ft, wr, gs, ap, fs, tk, a1, a2, a3, a4, a5, a6, a7, a8, a9, a10, a11, a12, a13, a14) (nI 0) :=
  br_t (by decide) H
theorem ba_end {post : St2 → Prop} {i q : Nat} (hi : i < 24) (hq : a7 i = nI q) (hQ : q < 72) (H : post (ct, bn, pk, op, fr, ft, 0, nI (i + 1), ap, fs, tk, a1, a2, a3, a4, a5, a6, a7, a8, upd a9 q 1, a10, a11, a12, a13, a14)) : wpX_endGroup post (ct, bn, pk, op, fr, ft, wr, gs, ap, fs, tk, a1, a2, a3, a4, a5, a6, a7, a8, a9, a10, a11, a12, a13, a14) (nI (i + 1)) := by
  refine br_f (nI_nle (by omega) (by omega)) (And.intro (pk_in i 24 hi (nI_pred i)) (And.intro (pk_in q 72 hQ ?_) (nm_r (e' := upd a9 q 1) ?_ H)))
  · rw [nI_pred, nI_clamp (by omega), hq]
  · rw [nI_pred, nI_clamp (by omega), hq, nI_clamp (by omega)]
/-- mustStop: MUL -/
theorem ba_mustA {post : Int32 → Prop} {i : Nat} {f b : Int32} (hi : i < 24) (hk : a1 i = 4) (hf : a3 i = f) (hb : a4 i = b) (hw : ((((1 : Int32) <<< (f &&& 31)) ||| ((1 : Int32) <<< (b &&& 31))) &&& wr) = 0) (H : post 0) : wpX_mustStop post (ct, bn, pk, op, fr, ft, wr, gs, ap, fs, tk, a1, a2, a3, a4, a5, a6, a7, a8, a9, a10, a11, a12, a13, a14) (nI i) := by
  refine And.intro (pk_in i 24 hi) (nm_r (e' := 4) (by rw [nI_clamp (by omega), hk]) (br_f (by decide) (And.intro (pk_in i 24 hi) ?_)))
  refine br_f (by decide) (And.intro (pk_in i 24 hi) (nm_r (e' := (((1 : Int32) <<< (f &&& 31)) ||| ((1 : Int32) <<< (b &&& 31)))) (by rw [nI_clamp (by omega), hf, hb]) ?_))
  exact br_f (by decide) (br_t hw (br_f (by decide) H))
/-- mustStop: ADDI and BNZ that may stay -/
theorem ba_mustB {post : Int32 → Prop} {i : Nat} {k f : Int32} (hi : i < 24) (hk : a1 i = k) (hf : a3 i = f) (k1 : ¬ k = 10) (k2 : 6 ≤ k) (k3 : ¬ k = 8) (k4 : ¬ k = 7) (hw : (((1 : Int32) <<< (f &&& 31)) &&& wr) = 0) (H : post 0) : wpX_mustStop post (ct, bn, pk, op, fr, ft, wr, gs, ap, fs, tk, a1, a2, a3, a4, a5, a6, a7, a8, a9, a10, a11, a12, a13, a14) (nI i) := by
  refine And.intro (pk_in i 24 hi) (nm_r (e' := k) (by rw [nI_clamp (by omega), hk]) (br_f k1 (And.intro (pk_in i 24 hi) (br_t k2 (br_f k3 (br_t ?_ (br_f k4 H)))))))
  rw [nI_clamp (by omega), hf]
  exact hw
/-- mustStop: ADDI and BNZ that must stop -/
theorem ba_mustC {post : Int32 → Prop} {i : Nat} {k f : Int32} (hi : i < 24) (hk : a1 i = k) (hf : a3 i = f) (k1 : ¬ k = 10) (k2 : 6 ≤ k) (k3 : ¬ k = 8) (hw : ¬ (((1 : Int32) <<< (f &&& 31)) &&& wr) = 0) (H : post 1) : wpX_mustStop post (ct, bn, pk, op, fr, ft, wr, gs, ap, fs, tk, a1, a2, a3, a4, a5, a6, a7, a8, a9, a10, a11, a12, a13, a14) (nI i) := by
  refine And.intro (pk_in i 24 hi) (nm_r (e' := k) (by rw [nI_clamp (by omega), hk]) (br_f k1 (And.intro (pk_in i 24 hi) (br_t k2 (br_f k3 (br_f ?_ H))))))
  rw [nI_clamp (by omega), hf]
  exact hw
/-- mustStop: a LOAD whose group has one operation, no STORE -/
theorem ba_mustD {post : Int32 → Prop} {i : Nat} {f : Int32} (hi : i + 1 < 24) (hk : a1 (i + 1) = 7) (hf : a3 (i + 1) = f) (hg : gs = nI i) (hs : ¬ a1 i = 8) (hw : (((1 : Int32) <<< (f &&& 31)) &&& wr) = 0) (H : post 0) : wpX_mustStop post (ct, bn, pk, op, fr, ft, wr, gs, ap, fs, tk, a1, a2, a3, a4, a5, a6, a7, a8, a9, a10, a11, a12, a13, a14) (nI (i + 1)) := by
  subst hg
  refine And.intro (pk_in (i + 1) 24 hi) (nm_r (e' := 7) (by rw [nI_clamp (by omega), hk]) (br_f (by decide) (And.intro (pk_in (i + 1) 24 hi) (br_t (by decide) (br_f (by decide) (br_t ?_ (br_t rfl ⟨0 + 1 + 1, ?_⟩)))))))
  · rw [nI_clamp (by omega), hf]
    exact hw
  · refine pk_le (i + 1) i (fun z => absurd z (by omega)) (fun _ => And.intro (pk_in i 24 (by omega)) (br_f ?_ (nm_r (nI_1 i) ?_)))
    · rw [nI_clamp (by omega)]
      exact hs
    · exact pk_le (i + 1) (i + 1) (fun _ => H) (fun z => absurd z (by omega))
end
end
section
/-! BundleAssembler: leaders, the clearing, and the words -/
section
variable {ct bn pk op fr ft wr gs ap fs tk : Int32} {a1 a2 a3 a4 a5 a6 a7 a8 a9 a10 a11 a12 a13 a14 : Nat → Int32}
/-- the law's program: kinds, destinations, first and second fields -/
def ba_k (i : Nat) : Int32 := [8, 4, 6, 7, 6, 6, 9].getD i 0
def ba_d (i : Nat) : Int32 := [2, 2, 2, 5, 3, 1, 0].getD i 0
def ba_f (i : Nat) : Int32 := [3, 2, 2, 3, 3, 1, 1].getD i 0
def ba_b (g : Int32) (i : Nat) : Int32 := [1, 4, g, 1, 1, -1, 0].getD i 0
/-- ADDI's word -/
def ba_w2 (g : Int32) : Int32 := ((((6 : Int32) + 1) ||| ((2 : Int32) <<< ((4 : Int32) &&& 31))) ||| ((2 : Int32) <<< ((7 : Int32) &&& 31))) ||| ((g + 128) <<< ((10 : Int32) &&& 31))
/-- the words, the stops, the shapes -/
def ba_w (g : Int32) (p : Nat) : Int32 := [132514, 135457, ba_w2 g, 132561, 132535, 130199, 131201, 0, 0].getD p 0
def ba_s (p : Nat) : Int32 := [0, 1, 0, 0, 0, 1, 1].getD p 0
def ba_sh (b : Nat) : Nat := [0, 0, 5].getD b 0
theorem ba_k9 : ∀ k, k < 6 → ba_k k < 9 := by decide +kernel
theorem ba_lead {post : St2 → Prop} {g : Int32} (h1 : ∀ i, i < 7 → a1 i = ba_k i) (h4 : ∀ i, i < 7 → a4 i = ba_b g i)
    (H : ∀ b6 : Nat → Int32, b6 0 = 1 → (∀ j, 0 < j → j < 25 → b6 j = 0) → post (nI 7, bn, pk, op, fr, ft, wr, gs, ap, fs, tk, a1, a2, a3, a4, a5, b6, a7, a8, a9, a10, a11, a12, a13, a14)) : wpX_findLeaders post (nI 7, bn, pk, op, fr, ft, wr, gs, ap, fs, tk, a1, a2, a3, a4, a5, a6, a7, a8, a9, a10, a11, a12, a13, a14) := by
  refine pk_loop (fun n k s => wX_findLeaders_2 post (nI 7) bn pk op fr ft wr gs ap fs tk n (nI k) a1 a2 a3 a4 a5 s a7 a8 a9 a10 a11 a12 a13 a14) (fun k s => (0 < k → s 0 = 1) ∧ ∀ j, 0 < j → j < k → s j = 0) 25 0 a6 (by omega) ⟨fun z => absurd z (by omega), fun j _ z => absurd z (by omega)⟩ ?_ ?_
  · intro n s h
    refine br_t (by decide) ?_
    refine pk_loop (fun n k s => wX_findLeaders_31 post (nI 7) bn pk op fr ft wr gs ap fs tk n (nI k) a1 a2 a3 a4 a5 s a7 a8 a9 a10 a11 a12 a13 a14) (fun k s => s 0 = 1 ∧ ∀ j, 0 < j → j < 25 → s j = 0) 7 0 s (by omega) ⟨h.1 (by omega), h.2⟩ ?_ ?_
    · intro n s h
      exact br_t (by decide) (H s h.1 h.2)
    · intro n k s hk h hw
      have e : a1 (nI k).toNatClampNeg = ba_k k := by rw [nI_clamp (by omega), h1 k hk]
      refine pk_le 7 k (fun z => absurd z (by omega)) (fun _ => And.intro (pk_in k 24 (by omega)) ?_)
      by_cases c : k = 6
      · subst c
        have e4 : a4 (nI 6).toNatClampNeg = nI 0 := by
          rw [nI_clamp (by omega), h4 6 hk]
          rfl
        refine br_f (by rw [e]; decide) (And.intro (pk_in 6 24 (by omega)) ?_)
        refine br_f (by rw [e4]; decide) (And.intro (pk_in 6 24 (by omega)) (And.intro (pk_in 0 25 (by omega) e4) ?_))
        refine nm_r (e' := upd s 0 1) (by rw [e4, nI_clamp (by omega)]) (nm_r (nI_1 6) (hw _ ⟨pk_us, fun j hj hj2 => ?_⟩))
        rw [pk_un (by omega)]
        exact h.2 j hj hj2
      · exact br_t (by rw [e]; exact ba_k9 k (by omega)) (nm_r (nI_1 k) (hw _ h))
  · intro n k s hk h hw
    refine pk_lt 24 k (fun z => absurd z (by omega)) (fun _ => ?_)
    refine pk_eq k 0 (fun z => And.intro (pk_in k 25 hk) ?_) (fun z => And.intro (pk_in k 25 hk) ?_)
    · subst z
      refine nm_r (e' := upd s 0 1) (by rw [nI_clamp (by omega)]) (nm_r (nI_1 0) (hw _ ⟨fun _ => pk_us, fun j hj hj2 => absurd hj (by omega)⟩))
    · refine nm_r (e' := upd s k 0) (by rw [nI_clamp (by omega)]) (nm_r (nI_1 k) (hw _ ⟨fun _ => ?_, fun j hj hj2 => ?_⟩))
      · rw [pk_un (by omega)]
        exact h.1 (by omega)
      · by_cases e : j = k
        · rw [e, pk_us]
        · rw [pk_un e]
          exact h.2 j hj (by omega)
theorem ba_clear {post : St2 → Prop}
    (H : ∀ b8 b9 : Nat → Int32, (∀ j, j < 72 → b8 j = 0) → (∀ j, j < 72 → b9 j = 0) → ∃ n, wX_pack_67 post n 0 ct 0 pk (-1) fr ft 0 0 ap fs tk a1 a2 a3 a4 a5 a6 a7 b8 b9 a10 a11 a12 a13 a14) : ∃ n, wX_pack_19 post ct bn pk op fr ft wr gs ap fs tk n 0 a1 a2 a3 a4 a5 a6 a7 a8 a9 a10 a11 a12 a13 a14 := by
  refine pk_loop (σ := (Nat → Int32) × (Nat → Int32)) (fun n k s => wX_pack_19 post ct bn pk op fr ft wr gs ap fs tk n (nI k) a1 a2 a3 a4 a5 a6 a7 (s.1) (s.2) a10 a11 a12 a13 a14) (fun k s => (∀ j, j < k → s.1 j = 0) ∧ ∀ j, j < k → s.2 j = 0) 72 0 (a8, a9) (by omega) ⟨fun j z => absurd z (by omega), fun j z => absurd z (by omega)⟩ ?_ ?_
  · intro n s h
    exact br_t (by decide) (H s.1 s.2 h.1 h.2)
  · intro n k s hk h hw
    refine pk_le 72 k (fun z => absurd z (by omega)) (fun _ => And.intro (pk_in k 72 hk) ?_)
    refine nm_r (e' := upd s.1 k 0) (by rw [nI_clamp (by omega)]) (And.intro (pk_in k 72 hk) (nm_r (e' := upd s.2 k 0) (by rw [nI_clamp (by omega)]) (nm_r (nI_1 k) (hw (upd s.1 k 0, upd s.2 k 0) ⟨fun j hj => ?_, fun j hj => ?_⟩))))
    · show upd s.1 k 0 j = 0
      by_cases e : j = k
      · rw [e, pk_us]
      · rw [pk_un e]
        exact h.1 j (by omega)
    · show upd s.2 k 0 j = 0
      by_cases e : j = k
      · rw [e, pk_us]
      · rw [pk_un e]
        exact h.2 j (by omega)
theorem ba_unit {post : Int32 → Prop} {q sh : Nat} {tm u : Int32} (hq : q < 72) (hs : a10 (q / 3) = nI sh) (hS : sh < 6) (ht : a5 sh = tm) (hu : (tm >>> ((3 * nI (q % 3)) &&& 31)) &&& 7 = u) (H : post u) : wpX_unitAt post (ct, bn, pk, op, fr, ft, wr, gs, ap, fs, tk, a1, a2, a3, a4, a5, a6, a7, a8, a9, a10, a11, a12, a13, a14) (nI q) := by
  have e1 : nI q / 3 = nI (q / 3) := pk_div (d := 3) (by omega) (by omega) (by omega)
  have e2 : nI q - nI q / 3 * 3 = nI (q % 3) := pk_rem (d := 3) (by omega) (by omega) (by omega)
  refine And.intro (by decide) (And.intro (pk_in (q / 3) 24 (by omega) e1) (And.intro (pk_in sh 6 hS (by rw [e1, nI_clamp (by omega), hs])) (And.intro (by decide) ?_)))
  rw [e2, e1, nI_clamp (by omega), hs, nI_clamp (by omega), ht, hu]
  exact H
theorem ba_129 {post : St2 → Prop} {i q : Nat} {d f x5 x6 x : Int32} (hi : i < 24) (hq : q < 72) (hd : a2 i = d) (hf : a3 i = f) (hx : ((((x5 + 1) ||| (d <<< ((4 : Int32) &&& 31))) ||| (f <<< ((7 : Int32) &&& 31))) ||| ((x6 + 128) <<< ((10 : Int32) &&& 31))) = x)
    (H : post (ct, bn, pk, op, fr, ft, wr, gs, ap, fs, tk, a1, a2, a3, a4, a5, a6, a7, upd a8 q x, a9, a10, a11, a12, a13, a14)) : wX_code_129 post (nI i) (nI q) x5 x6 ct bn pk op fr ft wr gs ap fs tk a1 a2 a3 a4 a5 a6 a7 a8 a9 a10 a11 a12 a13 a14 := by
  refine And.intro (pk_in i 24 hi) (And.intro (pk_in i 24 hi) (And.intro (pk_in q 72 hq) (nm_r (e' := upd a8 q x) ?_ H)))
  rw [nI_clamp (by omega), nI_clamp (by omega), hd, hf, hx]
theorem ba_88 {post : St2 → Prop} {i q : Nat} {k d f x5 b x : Int32} (hi : i < 24) (hq : q < 72) (hd : a2 i = d) (hf : a3 i = f) (hb : a4 i = b) (h9 : k < 9) (hx : ((((x5 + 1) ||| (d <<< ((4 : Int32) &&& 31))) ||| (f <<< ((7 : Int32) &&& 31))) ||| ((b + 128) <<< ((10 : Int32) &&& 31))) = x)
    (H : post (ct, bn, pk, op, fr, ft, wr, gs, ap, fs, tk, a1, a2, a3, a4, a5, a6, a7, upd a8 q x, a9, a10, a11, a12, a13, a14)) : wX_code_88 post (nI i) k (nI q) x5 ct bn pk op fr ft wr gs ap fs tk a1 a2 a3 a4 a5 a6 a7 a8 a9 a10 a11 a12 a13 a14 :=
  And.intro (pk_in i 24 hi) (nm_r (e' := b) (by rw [nI_clamp (by omega), hb]) (br_t h9 (ba_129 hi hq hd hf hx H)))
/-- the jump's word: back to operation 0, which stands in slot 0 -/
theorem ba_88j {post : St2 → Prop} {i q : Nat} {k d f x5 x : Int32} (hi : i < 24) (hq : q < 72) (hd : a2 i = d) (hf : a3 i = f) (hb : a4 i = nI 0) (h9 : ¬ k < 9) (hc : ¬ ct ≤ nI 0) (h0 : a7 0 = nI 0) (hx : ((((x5 + 1) ||| (d <<< ((4 : Int32) &&& 31))) ||| (f <<< ((7 : Int32) &&& 31))) ||| (((0 : Int32) + 128) <<< ((10 : Int32) &&& 31))) = x)
    (H : post (ct, bn, pk, op, fr, ft, wr, gs, ap, fs, tk, a1, a2, a3, a4, a5, a6, a7, upd a8 q x, a9, a10, a11, a12, a13, a14)) : wX_code_88 post (nI i) k (nI q) x5 ct bn pk op fr ft wr gs ap fs tk a1 a2 a3 a4 a5 a6 a7 a8 a9 a10 a11 a12 a13 a14 := by
  refine And.intro (pk_in i 24 hi) (nm_r (e' := nI 0) (by rw [nI_clamp (by omega), hb]) (br_f h9 (br_f hc (And.intro (pk_in 0 24 (by omega)) (And.intro (by decide) (ba_129 hi hq hd hf ?_ H))))))
  rw [nI_clamp (by omega), h0]
  exact hx
/-- what stands ahead of the branch on the kind -/
theorem ba_codeH {post : St2 → Prop} {i q sh : Nat} {k tm u : Int32} (hi : i < 24) (hk : a1 i = k) (h7 : a7 i = nI q) (hq : q < 72) (hs : a10 (q / 3) = nI sh) (hS : sh < 6) (ht : a5 sh = tm) (hu : (tm >>> ((3 * nI (q % 3)) &&& 31)) &&& 7 = u)
    (H4 : u = 4 → wX_code_88 post (nI i) k (nI q) (k - 9) ct bn pk op fr ft wr gs ap fs tk a1 a2 a3 a4 a5 a6 a7 a8 a9 a10 a11 a12 a13 a14) (H7 : ¬ u = 4 → ¬ k < 7 → wX_code_88 post (nI i) k (nI q) (k - 7) ct bn pk op fr ft wr gs ap fs tk a1 a2 a3 a4 a5 a6 a7 a8 a9 a10 a11 a12 a13 a14) (HM : ¬ u = 4 → k < 7 → (k = 4 ∨ k = 5) → wX_code_88 post (nI i) k (nI q) (k - 4) ct bn pk op fr ft wr gs ap fs tk a1 a2 a3 a4 a5 a6 a7 a8 a9 a10 a11 a12 a13 a14) (H6 : ¬ u = 4 → k < 7 → k = 6 → wX_code_88 post (nI i) k (nI q) 6 ct bn pk op fr ft wr gs ap fs tk a1 a2 a3 a4 a5 a6 a7 a8 a9 a10 a11 a12 a13 a14) (HA : ¬ u = 4 → k < 7 → ¬ k = 4 → ¬ k = 5 → ¬ k = 6 → wX_code_88 post (nI i) k (nI q) (k + 2) ct bn pk op fr ft wr gs ap fs tk a1 a2 a3 a4 a5 a6 a7 a8 a9 a10 a11 a12 a13 a14) : wpX_code post (ct, bn, pk, op, fr, ft, wr, gs, ap, fs, tk, a1, a2, a3, a4, a5, a6, a7, a8, a9, a10, a11, a12, a13, a14) (nI i) := by
  refine And.intro (pk_in i 24 hi) (nm_r (e' := k) (by rw [nI_clamp (by omega), hk]) (And.intro (pk_in i 24 hi) (nm_r (e' := nI q) (by rw [nI_clamp (by omega), h7]) (ba_unit hq hs hS ht hu ?_))))
  exact br_c (fun c => nm_e (H4 c)) (fun c => br_c (fun d => br_c (fun e => nm_e (HM c d (Or.inl e))) (fun e => br_c (fun f => nm_e (HM c d (Or.inr f))) (fun f => br_c (fun g => H6 c d g) (fun g => HA c d e f g)))) (fun d => nm_e (H7 c d)))
/-- LOAD, STORE -/
theorem ba_code7 {post : St2 → Prop} {i q : Nat} {k d f b x5 x : Int32} (hi : i < 24) (hk : a1 i = k) (h7 : a7 i = nI q) (hq : q < 72) (hs : a10 (q / 3) = nI 0) (ht : a5 0 = 145) (hm : q % 3 = 0) (k7 : ¬ k < 7) (k9 : k < 9) (hd : a2 i = d) (hf : a3 i = f) (hb : a4 i = b) (h5 : k - 7 = x5)
    (hx : ((((x5 + 1) ||| (d <<< ((4 : Int32) &&& 31))) ||| (f <<< ((7 : Int32) &&& 31))) ||| ((b + 128) <<< ((10 : Int32) &&& 31))) = x) (H : post (ct, bn, pk, op, fr, ft, wr, gs, ap, fs, tk, a1, a2, a3, a4, a5, a6, a7, upd a8 q x, a9, a10, a11, a12, a13, a14)) : wpX_code post (ct, bn, pk, op, fr, ft, wr, gs, ap, fs, tk, a1, a2, a3, a4, a5, a6, a7, a8, a9, a10, a11, a12, a13, a14) (nI i) := by
  subst h5
  exact ba_codeH (u := 1) hi hk h7 hq hs (by omega) ht (by rw [hm]; decide) (fun c => absurd c (by decide)) (fun _ _ => ba_88 hi hq hd hf hb k9 hx H) (fun _ c _ => absurd c k7) (fun _ c _ => absurd c k7) (fun _ c _ _ _ => absurd c k7)
/-- MUL -/
theorem ba_code4 {post : St2 → Prop} {i q : Nat} {d f b x : Int32} (hi : i < 24) (hk : a1 i = 4) (h7 : a7 i = nI q) (hq : q < 72) (hs : a10 (q / 3) = nI 0) (ht : a5 0 = 145) (hm : q % 3 = 1) (hd : a2 i = d) (hf : a3 i = f) (hb : a4 i = b)
    (hx : (((((4 : Int32) - 4 + 1) ||| (d <<< ((4 : Int32) &&& 31))) ||| (f <<< ((7 : Int32) &&& 31))) ||| ((b + 128) <<< ((10 : Int32) &&& 31))) = x) (H : post (ct, bn, pk, op, fr, ft, wr, gs, ap, fs, tk, a1, a2, a3, a4, a5, a6, a7, upd a8 q x, a9, a10, a11, a12, a13, a14)) : wpX_code post (ct, bn, pk, op, fr, ft, wr, gs, ap, fs, tk, a1, a2, a3, a4, a5, a6, a7, a8, a9, a10, a11, a12, a13, a14) (nI i) :=
  ba_codeH (u := 2) hi hk h7 hq hs (by omega) ht (by rw [hm]; decide) (fun c => absurd c (by decide)) (fun _ c => absurd (show (4 : Int32) < 7 by decide) c) (fun _ _ _ => ba_88 hi hq hd hf hb (by decide) hx H) (fun _ _ c => absurd c (by decide)) (fun _ _ c _ _ => absurd rfl c)
/-- ADDI in slot 1 or 2 of a bundle of template 0 -/
theorem ba_code6 {post : St2 → Prop} {i q : Nat} {d f b x : Int32} (hi : i < 24) (hk : a1 i = 6) (h7 : a7 i = nI q) (hq : q < 72) (hs : a10 (q / 3) = nI 0) (ht : a5 0 = 145) (hm : q % 3 = 1 ∨ q % 3 = 2) (hd : a2 i = d) (hf : a3 i = f) (hb : a4 i = b)
    (hx : ((((6 : Int32) + 1) ||| (d <<< ((4 : Int32) &&& 31))) ||| (f <<< ((7 : Int32) &&& 31))) ||| ((b + 128) <<< ((10 : Int32) &&& 31)) = x) (H : post (ct, bn, pk, op, fr, ft, wr, gs, ap, fs, tk, a1, a2, a3, a4, a5, a6, a7, upd a8 q x, a9, a10, a11, a12, a13, a14)) : wpX_code post (ct, bn, pk, op, fr, ft, wr, gs, ap, fs, tk, a1, a2, a3, a4, a5, a6, a7, a8, a9, a10, a11, a12, a13, a14) (nI i) :=
  ba_codeH (u := 2) hi hk h7 hq hs (by omega) ht (by rcases hm with e | e <;> rw [e] <;> decide) (fun c => absurd c (by decide)) (fun _ c => absurd (show (6 : Int32) < 7 by decide) c) (fun _ _ c => absurd c (by decide)) (fun _ _ _ => ba_88 hi hq hd hf hb (by decide) hx H) (fun _ _ _ _ c => absurd rfl c)
/-- BNZ to operation 0, in slot 0 of a bundle of template 5 -/
theorem ba_code9 {post : St2 → Prop} {i q : Nat} {d f x : Int32} (hi : i < 24) (hk : a1 i = 9) (h7 : a7 i = nI q) (hq : q < 72) (hs : a10 (q / 3) = nI 5) (ht : a5 5 = 292) (hm : q % 3 = 0) (hd : a2 i = d) (hf : a3 i = f) (hb : a4 i = nI 0) (hc : ¬ ct ≤ nI 0) (h0 : a7 0 = nI 0)
    (hx : (((((9 : Int32) - 9 + 1) ||| (d <<< ((4 : Int32) &&& 31))) ||| (f <<< ((7 : Int32) &&& 31))) ||| (((0 : Int32) + 128) <<< ((10 : Int32) &&& 31))) = x) (H : post (ct, bn, pk, op, fr, ft, wr, gs, ap, fs, tk, a1, a2, a3, a4, a5, a6, a7, upd a8 q x, a9, a10, a11, a12, a13, a14)) : wpX_code post (ct, bn, pk, op, fr, ft, wr, gs, ap, fs, tk, a1, a2, a3, a4, a5, a6, a7, a8, a9, a10, a11, a12, a13, a14) (nI i) :=
  ba_codeH (u := 4) hi hk h7 hq hs (by omega) ht (by rw [hm]; decide) (fun _ => ba_88j hi hq hd hf hb (by decide) hc h0 hx H) (fun c => absurd rfl c) (fun c => absurd rfl c) (fun c => absurd rfl c) (fun c => absurd rfl c)
end
end
section
/-! BundleAssembler: the packing of the law's program -/
section
variable {ct bn pk op fr ft wr gs ap fs tk : Int32} {a1 a2 a3 a4 a5 a6 a7 a8 a9 a10 a11 a12 a13 a14 : Nat → Int32}
/-- the packed program: templates, words, stops, shapes -/
def ba_P (g : Int32) (a5 a8 a9 a10 : Nat → Int32) : Prop := (∀ t, t < 6 → a5 t = ba_tm t) ∧ (∀ p, p < 9 → a8 p = ba_w g p) ∧ (∀ p, p < 7 → a9 p = ba_s p) ∧ (∀ b, b < 3 → a10 b = nI (ba_sh b))
theorem ba_142 {post : St2 → Prop} {n i : Nat} {k : Int32} (hi : i < 24) (hk : a1 i = k) (h9 : k < 9) (H : wX_pack_67 post n (nI (i + 1)) ct bn pk op fr ft wr gs ap fs tk a1 a2 a3 a4 a5 a6 a7 a8 a9 a10 a11 a12 a13 a14) : wX_pack_142 post (wX_pack_67 post n) (nI i) ct bn pk op fr ft wr gs ap fs tk a1 a2 a3 a4 a5 a6 a7 a8 a9 a10 a11 a12 a13 a14 :=
  And.intro (pk_in i 24 hi) (br_t (by rw [nI_clamp (by omega), hk]; exact h9) (nm_r (nI_1 i) H))
theorem ba_142j {post : St2 → Prop} {n i q : Nat} (hi : i < 24) (hk : a1 i = 9) (h7 : a7 i = nI q) (hq : q < 72) (H : wX_pack_67 post n (nI (i + 1)) ct bn pk op fr ft 0 (nI (i + 1)) ap fs tk a1 a2 a3 a4 a5 a6 a7 a8 (upd a9 q 1) a10 a11 a12 a13 a14) : wX_pack_142 post (wX_pack_67 post n) (nI i) ct bn pk op fr ft wr gs ap fs tk a1 a2 a3 a4 a5 a6 a7 a8 a9 a10 a11 a12 a13 a14 := by
  refine And.intro (pk_in i 24 hi) (br_f (by rw [nI_clamp (by omega), hk]; decide) ?_)
  rw [nI_1]
  exact ba_end hi h7 hq (nm_e H)
/-- behind the slot: STORE -/
theorem ba_tail8 {post : St2 → Prop} {n i : Nat} (hi : i < 24) (hk : a1 i = 8) (H : wX_pack_67 post n (nI (i + 1)) ct bn pk op fr ft wr gs ap fs tk a1 a2 a3 a4 a5 a6 a7 a8 a9 a10 a11 a12 a13 a14) :
    vp_in (nI i) 24 ∧ ((7 < a1 (nI i).toNatClampNeg → wX_pack_142 post (wX_pack_67 post n) (nI i) ct bn pk op fr ft wr gs ap fs tk a1 a2 a3 a4 a5 a6 a7 a8 a9 a10 a11 a12 a13 a14) ∧ (¬ 7 < a1 (nI i).toNatClampNeg → (vp_in (nI i) 24 ∧ (∀ f : Int32, f = wr ||| ((1 : Int32) <<< ((a2 (nI i).toNatClampNeg) &&& 31)) → wX_pack_142 post (wX_pack_67 post n) (nI i) ct bn pk op fr ft f gs ap fs tk a1 a2 a3 a4 a5 a6 a7 a8 a9 a10 a11 a12 a13 a14)))) :=
  And.intro (pk_in i 24 hi) (br_t (by rw [nI_clamp (by omega), hk]; decide) (ba_142 hi hk (by decide) H))
/-- behind the slot: what writes a register -/
theorem ba_tail {post : St2 → Prop} {n i : Nat} {k d w : Int32} (hi : i < 24) (hk : a1 i = k) (hd : a2 i = d) (k7 : ¬ 7 < k) (k9 : k < 9) (hw : wr ||| ((1 : Int32) <<< (d &&& 31)) = w) (H : wX_pack_67 post n (nI (i + 1)) ct bn pk op fr ft w gs ap fs tk a1 a2 a3 a4 a5 a6 a7 a8 a9 a10 a11 a12 a13 a14) :
    vp_in (nI i) 24 ∧ ((7 < a1 (nI i).toNatClampNeg → wX_pack_142 post (wX_pack_67 post n) (nI i) ct bn pk op fr ft wr gs ap fs tk a1 a2 a3 a4 a5 a6 a7 a8 a9 a10 a11 a12 a13 a14) ∧ (¬ 7 < a1 (nI i).toNatClampNeg → (vp_in (nI i) 24 ∧ (∀ f : Int32, f = wr ||| ((1 : Int32) <<< ((a2 (nI i).toNatClampNeg) &&& 31)) → wX_pack_142 post (wX_pack_67 post n) (nI i) ct bn pk op fr ft f gs ap fs tk a1 a2 a3 a4 a5 a6 a7 a8 a9 a10 a11 a12 a13 a14)))) :=
  And.intro (pk_in i 24 hi) (br_f (by rw [nI_clamp (by omega), hk]; exact k7) (And.intro (pk_in i 24 hi) (nm_r (e' := w) (by rw [nI_clamp (by omega), hd, hw]) (ba_142 hi hk k9 H))))
/-- behind the slot: the jump -/
theorem ba_tail9 {post : St2 → Prop} {n i q : Nat} (hi : i < 24) (hk : a1 i = 9) (h7 : a7 i = nI q) (hq : q < 72) (H : wX_pack_67 post n (nI (i + 1)) ct bn pk op fr ft 0 (nI (i + 1)) ap fs tk a1 a2 a3 a4 a5 a6 a7 a8 (upd a9 q 1) a10 a11 a12 a13 a14) :
    vp_in (nI i) 24 ∧ ((7 < a1 (nI i).toNatClampNeg → wX_pack_142 post (wX_pack_67 post n) (nI i) ct bn pk op fr ft wr gs ap fs tk a1 a2 a3 a4 a5 a6 a7 a8 a9 a10 a11 a12 a13 a14) ∧ (¬ 7 < a1 (nI i).toNatClampNeg → (vp_in (nI i) 24 ∧ (∀ f : Int32, f = wr ||| ((1 : Int32) <<< ((a2 (nI i).toNatClampNeg) &&& 31)) → wX_pack_142 post (wX_pack_67 post n) (nI i) ct bn pk op fr ft f gs ap fs tk a1 a2 a3 a4 a5 a6 a7 a8 a9 a10 a11 a12 a13 a14)))) :=
  And.intro (pk_in i 24 hi) (br_t (by rw [nI_clamp (by omega), hk]; decide) (ba_142j hi hk h7 hq H))
theorem ba_i0 {post : St2 → Prop} {n : Nat} (h1 : ∀ i, i < 7 → a1 i = ba_k i) (ht : ∀ t, t < 6 → a5 t = ba_tm t) (c0 : a6 0 = 1)
    (H : wX_pack_67 post n (nI 1) (nI 7) (nI 1) pk (nI 0) (nI 1) 31 0 (nI 0) ap fs tk a1 a2 a3 a4 a5 a6 (upd a7 0 (nI 0)) a8 a9 a10 a11 a12 a13 a14) : wX_pack_67 post (n + 1) (nI 0) (nI 7) (nI 0) pk (-1) fr ft 0 (nI 0) ap fs tk a1 a2 a3 a4 a5 a6 a7 a8 a9 a10 a11 a12 a13 a14 := by
  refine br_f (by decide) (And.intro (pk_in 0 25 (by omega)) (br_f ?_ (ba_close0 (by decide) (ba_end0 ?_))))
  · rw [nI_clamp (by omega), c0]
    decide
  · unfold wX_pack_109
    exact ba_put2 (k := 8) (un := 1) (lf := 31) (b := 0) (by omega) (h1 0 (by omega)) (by decide) (by decide) rfl ht (by decide +kernel) (by decide) (ba_tail8 (by omega) (h1 0 (by omega)) H)
theorem ba_i1 {post : St2 → Prop} {n : Nat} {g : Int32} (h1 : ∀ i, i < 7 → a1 i = ba_k i) (h2 : ∀ i, i < 7 → a2 i = ba_d i) (h3 : ∀ i, i < 7 → a3 i = ba_f i) (h4 : ∀ i, i < 7 → a4 i = ba_b g i) (ht : ∀ t, t < 6 → a5 t = ba_tm t) (c1 : ∀ j, 0 < j → j < 25 → a6 j = 0)
    (H : wX_pack_67 post n (nI 2) (nI 7) (nI 1) pk (nI 0) (nI 2) 5 4 (nI 0) ap fs tk a1 a2 a3 a4 a5 a6 (upd a7 1 (nI 1)) a8 a9 a10 a11 a12 a13 a14) : wX_pack_67 post (n + 1) (nI 1) (nI 7) (nI 1) pk (nI 0) (nI 1) 31 0 (nI 0) ap fs tk a1 a2 a3 a4 a5 a6 a7 a8 a9 a10 a11 a12 a13 a14 := by
  refine br_f (by decide) (And.intro (pk_in 1 25 (by omega)) (br_t ?_ (ba_mustA (f := 2) (b := 4) (by omega) (h1 1 (by omega)) (h3 1 (by omega)) (h4 1 (by omega)) (by decide) (br_t rfl ?_))))
  · rw [nI_clamp (by omega)]
    exact c1 1 (by omega) (by omega)
  · unfold wX_pack_109
    exact ba_put1 (k := 4) (un := 2) (lf := 5) (o := 0) (s := 1) (by omega) (h1 1 (by omega)) (by decide) rfl (by omega) rfl (by omega) ht (by decide +kernel) (by decide) (ba_tail (w := 4) (by omega) (h1 1 (by omega)) (h2 1 (by omega)) (by decide) (by decide) (by decide) H)
theorem ba_i2 {post : St2 → Prop} {n : Nat} (h1 : ∀ i, i < 7 → a1 i = ba_k i) (h2 : ∀ i, i < 7 → a2 i = ba_d i) (h3 : ∀ i, i < 7 → a3 i = ba_f i) (ht : ∀ t, t < 6 → a5 t = ba_tm t) (c1 : ∀ j, 0 < j → j < 25 → a6 j = 0) (hq : a7 1 = nI 1)
    (H : wX_pack_67 post n (nI 3) (nI 7) (nI 1) pk (nI 0) (nI 3) 1 4 (nI 2) ap fs tk a1 a2 a3 a4 a5 a6 (upd a7 2 (nI 2)) a8 (upd a9 1 1) a10 a11 a12 a13 a14) : wX_pack_67 post (n + 1) (nI 2) (nI 7) (nI 1) pk (nI 0) (nI 2) 5 4 (nI 0) ap fs tk a1 a2 a3 a4 a5 a6 a7 a8 a9 a10 a11 a12 a13 a14 := by
  refine br_f (by decide) (And.intro (pk_in 2 25 (by omega)) (br_t ?_ (ba_mustC (k := 6) (f := 2) (by omega) (h1 2 (by omega)) (h3 2 (by omega)) (by decide) (by decide) (by decide) (by decide) (br_f (by decide) (ba_end (i := 1) (q := 1) (by omega) hq (by omega) ?_)))))
  · rw [nI_clamp (by omega)]
    exact c1 2 (by omega) (by omega)
  · unfold wX_pack_109
    exact ba_put1 (k := 6) (un := 3) (lf := 1) (o := 0) (s := 2) (by omega) (h1 2 (by omega)) (by decide) rfl (by omega) rfl (by omega) ht (by decide +kernel) (by decide) (ba_tail (w := 4) (by omega) (h1 2 (by omega)) (h2 2 (by omega)) (by decide) (by decide) (by decide) H)
theorem ba_i3 {post : St2 → Prop} {n : Nat} (h1 : ∀ i, i < 7 → a1 i = ba_k i) (h2 : ∀ i, i < 7 → a2 i = ba_d i) (h3 : ∀ i, i < 7 → a3 i = ba_f i) (ht : ∀ t, t < 6 → a5 t = ba_tm t) (c1 : ∀ j, 0 < j → j < 25 → a6 j = 0)
    (H : wX_pack_67 post n (nI 4) (nI 7) (nI 2) pk (nI 1) (nI 1) 31 36 (nI 2) ap fs tk a1 a2 a3 a4 a5 a6 (upd a7 3 (nI 3)) a8 a9 (upd a10 0 (nI 0)) a11 a12 a13 a14) : wX_pack_67 post (n + 1) (nI 3) (nI 7) (nI 1) pk (nI 0) (nI 3) 1 4 (nI 2) ap fs tk a1 a2 a3 a4 a5 a6 a7 a8 a9 a10 a11 a12 a13 a14 := by
  refine br_f (by decide) (And.intro (pk_in 3 25 (by omega)) (br_t ?_ (ba_mustD (i := 2) (f := 3) (by omega) (h1 3 (by omega)) (h3 3 (by omega)) rfl ?_ (by decide) (br_t rfl ?_))))
  · rw [nI_clamp (by omega)]
    exact c1 3 (by omega) (by omega)
  · rw [h1 2 (by omega)]
    decide
  · unfold wX_pack_109
    exact ba_put3 (k := 7) (un := 1) (lf := 31) (o := 0) (t := 0) (b := 1) (by omega) (h1 3 (by omega)) (by decide) rfl (by omega) rfl (by omega) (fun j z => absurd z (by omega)) (fun _ => by decide) rfl ht (by decide +kernel) (by decide) (ba_tail (w := 36) (by omega) (h1 3 (by omega)) (h2 3 (by omega)) (by decide) (by decide) (by decide) H)
theorem ba_i4 {post : St2 → Prop} {n : Nat} (h1 : ∀ i, i < 7 → a1 i = ba_k i) (h2 : ∀ i, i < 7 → a2 i = ba_d i) (h3 : ∀ i, i < 7 → a3 i = ba_f i) (ht : ∀ t, t < 6 → a5 t = ba_tm t) (c1 : ∀ j, 0 < j → j < 25 → a6 j = 0)
    (H : wX_pack_67 post n (nI 5) (nI 7) (nI 2) pk (nI 1) (nI 2) 15 44 (nI 2) ap fs tk a1 a2 a3 a4 a5 a6 (upd a7 4 (nI 4)) a8 a9 a10 a11 a12 a13 a14) : wX_pack_67 post (n + 1) (nI 4) (nI 7) (nI 2) pk (nI 1) (nI 1) 31 36 (nI 2) ap fs tk a1 a2 a3 a4 a5 a6 a7 a8 a9 a10 a11 a12 a13 a14 := by
  refine br_f (by decide) (And.intro (pk_in 4 25 (by omega)) (br_t ?_ (ba_mustB (k := 6) (f := 3) (by omega) (h1 4 (by omega)) (h3 4 (by omega)) (by decide) (by decide) (by decide) (by decide) (by decide) (br_t rfl ?_))))
  · rw [nI_clamp (by omega)]
    exact c1 4 (by omega) (by omega)
  · unfold wX_pack_109
    exact ba_put1 (k := 6) (un := 3) (lf := 15) (o := 1) (s := 1) (by omega) (h1 4 (by omega)) (by decide) rfl (by omega) rfl (by omega) ht (by decide +kernel) (by decide) (ba_tail (w := 44) (by omega) (h1 4 (by omega)) (h2 4 (by omega)) (by decide) (by decide) (by decide) H)
theorem ba_i5 {post : St2 → Prop} {n : Nat} (h1 : ∀ i, i < 7 → a1 i = ba_k i) (h2 : ∀ i, i < 7 → a2 i = ba_d i) (h3 : ∀ i, i < 7 → a3 i = ba_f i) (ht : ∀ t, t < 6 → a5 t = ba_tm t) (c1 : ∀ j, 0 < j → j < 25 → a6 j = 0)
    (H : wX_pack_67 post n (nI 6) (nI 7) (nI 2) pk (nI 1) (nI 3) 3 46 (nI 2) ap fs tk a1 a2 a3 a4 a5 a6 (upd a7 5 (nI 5)) a8 a9 a10 a11 a12 a13 a14) : wX_pack_67 post (n + 1) (nI 5) (nI 7) (nI 2) pk (nI 1) (nI 2) 15 44 (nI 2) ap fs tk a1 a2 a3 a4 a5 a6 a7 a8 a9 a10 a11 a12 a13 a14 := by
  refine br_f (by decide) (And.intro (pk_in 5 25 (by omega)) (br_t ?_ (ba_mustB (k := 6) (f := 1) (by omega) (h1 5 (by omega)) (h3 5 (by omega)) (by decide) (by decide) (by decide) (by decide) (by decide) (br_t rfl ?_))))
  · rw [nI_clamp (by omega)]
    exact c1 5 (by omega) (by omega)
  · unfold wX_pack_109
    exact ba_put1 (k := 6) (un := 3) (lf := 3) (o := 1) (s := 2) (by omega) (h1 5 (by omega)) (by decide) rfl (by omega) rfl (by omega) ht (by decide +kernel) (by decide) (ba_tail (w := 46) (by omega) (h1 5 (by omega)) (h2 5 (by omega)) (by decide) (by decide) (by decide) H)
theorem ba_i6 {post : St2 → Prop} {n : Nat} (h1 : ∀ i, i < 7 → a1 i = ba_k i) (h3 : ∀ i, i < 7 → a3 i = ba_f i) (ht : ∀ t, t < 6 → a5 t = ba_tm t) (c1 : ∀ j, 0 < j → j < 25 → a6 j = 0) (hq : a7 5 = nI 5)
    (H : wX_pack_67 post n (nI 7) (nI 7) (nI 3) pk (nI 2) (nI 1) 32 0 (nI 7) ap fs tk a1 a2 a3 a4 a5 a6 (upd a7 6 (nI 6)) a8 (upd (upd a9 5 1) 6 1) (upd a10 1 (nI 0)) a11 a12 a13 a14) : wX_pack_67 post (n + 1) (nI 6) (nI 7) (nI 2) pk (nI 1) (nI 3) 3 46 (nI 2) ap fs tk a1 a2 a3 a4 a5 a6 a7 a8 a9 a10 a11 a12 a13 a14 := by
  refine br_f (by decide) (And.intro (pk_in 6 25 (by omega)) (br_t ?_ (ba_mustC (k := 9) (f := 1) (by omega) (h1 6 (by omega)) (h3 6 (by omega)) (by decide) (by decide) (by decide) (by decide) (br_f (by decide) (ba_end (i := 5) (q := 5) (by omega) hq (by omega) ?_)))))
  · rw [nI_clamp (by omega)]
    exact c1 6 (by omega) (by omega)
  · unfold wX_pack_109
    exact ba_put3 (k := 9) (un := 4) (lf := 32) (o := 1) (t := 0) (b := 2) (by omega) (h1 6 (by omega)) (by decide) rfl (by omega) rfl (by omega) (fun j z => absurd z (by omega)) (fun _ => by decide) rfl ht (by decide +kernel) (by decide) (ba_tail9 (q := 6) (by omega) (h1 6 (by omega)) pk_us (by omega) H)
/-- the end of the packing's loop: the last bundle is closed -/
theorem ba_i7 {post : St2 → Prop} {n : Nat} (H : ∃ m, wX_pack_172 post m (nI 0) (nI 7) (nI 3) pk (-1) (nI 1) 32 0 (nI 7) ap fs tk a1 a2 a3 a4 a5 a6 a7 a8 a9 (upd a10 2 (nI 5)) a11 a12 a13 a14) : wX_pack_67 post (n + 1) (nI 7) (nI 7) (nI 3) pk (nI 2) (nI 1) 32 0 (nI 7) ap fs tk a1 a2 a3 a4 a5 a6 a7 a8 a9 a10 a11 a12 a13 a14 :=
  br_t (by decide) (ba_close (o := 2) (t := 5) rfl (by omega) (by omega) (by decide +kernel) (fun z => absurd z (by omega)) H)
theorem ba_loop {post : St2 → Prop} {g : Int32} (h1 : ∀ i, i < 7 → a1 i = ba_k i) (h2 : ∀ i, i < 7 → a2 i = ba_d i) (h3 : ∀ i, i < 7 → a3 i = ba_f i) (h4 : ∀ i, i < 7 → a4 i = ba_b g i) (ht : ∀ t, t < 6 → a5 t = ba_tm t) (c0 : a6 0 = 1) (c1 : ∀ j, 0 < j → j < 25 → a6 j = 0)
    (H : ∃ m, wX_pack_172 post m (nI 0) (nI 7) (nI 3) pk (-1) (nI 1) 32 0 (nI 7) ap fs tk a1 a2 a3 a4 a5 a6 (upd (upd (upd (upd (upd (upd (upd a7 0 (nI 0)) 1 (nI 1)) 2 (nI 2)) 3 (nI 3)) 4 (nI 4)) 5 (nI 5)) 6 (nI 6)) a8 (upd (upd (upd a9 1 1) 5 1) 6 1) (upd (upd (upd a10 0 (nI 0)) 1 (nI 0)) 2 (nI 5)) a11 a12 a13 a14) : wX_pack_67 post 8 (nI 0) (nI 7) (nI 0) pk (-1) fr ft 0 (nI 0) ap fs tk a1 a2 a3 a4 a5 a6 a7 a8 a9 a10 a11 a12 a13 a14 :=
  ba_i0 h1 ht c0 (ba_i1 h1 h2 h3 h4 ht c1 (ba_i2 h1 h2 h3 ht c1 pk_us (ba_i3 h1 h2 h3 ht c1 (ba_i4 h1 h2 h3 ht c1 (ba_i5 h1 h2 h3 ht c1 (ba_i6 h1 h3 ht c1 pk_us (ba_i7 H)))))))
/-- the words are coded -/
theorem ba_words {post : St2 → Prop} {g : Int32} (h1 : ∀ i, i < 7 → a1 i = ba_k i) (h2 : ∀ i, i < 7 → a2 i = ba_d i) (h3 : ∀ i, i < 7 → a3 i = ba_f i) (h4 : ∀ i, i < 7 → a4 i = ba_b g i) (ht : ∀ t, t < 6 → a5 t = ba_tm t) (h7 : ∀ i, i < 7 → a7 i = nI i) (h10 : ∀ b, b < 3 → a10 b = nI (ba_sh b))
    (H : post (nI 7, bn, pk, op, fr, ft, wr, gs, ap, fs, tk, a1, a2, a3, a4, a5, a6, a7, upd (upd (upd (upd (upd (upd (upd a8 0 132514) 1 135457) 2 (ba_w2 g)) 3 132561) 4 132535) 5 130199) 6 131201, a9, a10, a11, a12, a13, a14)) : wX_pack_172 post (0 + 1 + 1 + 1 + 1 + 1 + 1 + 1 + 1) (nI 0) (nI 7) bn pk op fr ft wr gs ap fs tk a1 a2 a3 a4 a5 a6 a7 a8 a9 a10 a11 a12 a13 a14 := by
  refine br_f (by decide) (ba_code7 (i := 0) (q := 0) (b := 1) (x := 132514) (by omega) (h1 0 (by omega)) (h7 0 (by omega)) (by omega) (h10 0 (by omega)) (ht 0 (by omega)) (by omega) (by decide) (by decide) (h2 0 (by omega)) (h3 0 (by omega)) (h4 0 (by omega)) rfl (by decide) (nm_r (nI_1 0) ?_))
  refine br_f (by decide) (ba_code4 (i := 1) (q := 1) (b := 4) (x := 135457) (by omega) (h1 1 (by omega)) (h7 1 (by omega)) (by omega) (h10 0 (by omega)) (ht 0 (by omega)) (by omega) (h2 1 (by omega)) (h3 1 (by omega)) (h4 1 (by omega)) (by decide) (nm_r (nI_1 1) ?_))
  refine br_f (by decide) (ba_code6 (i := 2) (q := 2) (x := ba_w2 g) (by omega) (h1 2 (by omega)) (h7 2 (by omega)) (by omega) (h10 0 (by omega)) (ht 0 (by omega)) (by omega) (h2 2 (by omega)) (h3 2 (by omega)) (h4 2 (by omega)) rfl (nm_r (nI_1 2) ?_))
  refine br_f (by decide) (ba_code7 (i := 3) (q := 3) (b := 1) (x := 132561) (by omega) (h1 3 (by omega)) (h7 3 (by omega)) (by omega) (h10 1 (by omega)) (ht 0 (by omega)) (by omega) (by decide) (by decide) (h2 3 (by omega)) (h3 3 (by omega)) (h4 3 (by omega)) rfl (by decide) (nm_r (nI_1 3) ?_))
  refine br_f (by decide) (ba_code6 (i := 4) (q := 4) (b := 1) (x := 132535) (by omega) (h1 4 (by omega)) (h7 4 (by omega)) (by omega) (h10 1 (by omega)) (ht 0 (by omega)) (by omega) (h2 4 (by omega)) (h3 4 (by omega)) (h4 4 (by omega)) (by decide) (nm_r (nI_1 4) ?_))
  refine br_f (by decide) (ba_code6 (i := 5) (q := 5) (b := -1) (x := 130199) (by omega) (h1 5 (by omega)) (h7 5 (by omega)) (by omega) (h10 1 (by omega)) (ht 0 (by omega)) (by omega) (h2 5 (by omega)) (h3 5 (by omega)) (h4 5 (by omega)) (by decide) (nm_r (nI_1 5) ?_))
  refine br_f (by decide) (ba_code9 (i := 6) (q := 6) (x := 131201) (by omega) (h1 6 (by omega)) (h7 6 (by omega)) (by omega) (h10 2 (by omega)) (ht 5 (by omega)) (by omega) (h2 6 (by omega)) (h3 6 (by omega)) (h4 6 (by omega)) (by decide) (h7 0 (by omega)) (by decide) (nm_r (nI_1 6) ?_))
  exact br_t (by decide) H
/-- pack, the whole -/
theorem ba_pack {post : St2 → Prop} {g : Int32} (h1 : ∀ i, i < 7 → a1 i = ba_k i) (h2 : ∀ i, i < 7 → a2 i = ba_d i) (h3 : ∀ i, i < 7 → a3 i = ba_f i) (h4 : ∀ i, i < 7 → a4 i = ba_b g i) (ht : ∀ t, t < 6 → a5 t = ba_tm t)
    (H : ∀ b6 b7 b8 b9 b10 : Nat → Int32, ba_P g a5 b8 b9 b10 → post (nI 7, 3, 1, -1, nI 1, 32, 0, nI 7, ap, fs, tk, a1, a2, a3, a4, a5, b6, b7, b8, b9, b10, a11, a12, a13, a14)) : wpX_pack post (nI 7, bn, 0, op, fr, ft, wr, gs, ap, fs, tk, a1, a2, a3, a4, a5, a6, a7, a8, a9, a10, a11, a12, a13, a14) := by
  refine br_t rfl (ba_lead (g := g) h1 h4 (fun b6 c0 c1 => ba_clear (fun b8 b9 e8 e9 => ⟨8, ba_loop h1 h2 h3 h4 ht c0 c1 ⟨_, ba_words h1 h2 h3 h4 ht ?_ ?_ (H _ _ _ _ _ ⟨ht, ?_, ?_, ?_⟩)⟩⟩)))
  · intro i hi
    rcases (by omega : i = 0 ∨ i = 1 ∨ i = 2 ∨ i = 3 ∨ i = 4 ∨ i = 5 ∨ i = 6) with e | e | e | e | e | e | e <;> subst e <;> rfl
  · intro i hi
    rcases (by omega : i = 0 ∨ i = 1 ∨ i = 2) with e | e | e <;> subst e <;> rfl
  · intro i hi
    rcases (by omega : i = 0 ∨ i = 1 ∨ i = 2 ∨ i = 3 ∨ i = 4 ∨ i = 5 ∨ i = 6 ∨ i = 7 ∨ i = 8) with e | e | e | e | e | e | e | e | e <;> subst e
    · rfl
    · rfl
    · rfl
    · rfl
    · rfl
    · rfl
    · rfl
    · exact e8 7 (by omega)
    · exact e8 8 (by omega)
  · intro i hi
    rcases (by omega : i = 0 ∨ i = 1 ∨ i = 2 ∨ i = 3 ∨ i = 4 ∨ i = 5 ∨ i = 6) with e | e | e | e | e | e | e <;> subst e
    · exact e9 0 (by omega)
    · rfl
    · exact e9 2 (by omega)
    · exact e9 3 (by omega)
    · exact e9 4 (by omega)
    · rfl
    · rfl
  · intro i hi
    rcases (by omega : i = 0 ∨ i = 1 ∨ i = 2) with e | e | e <;> subst e <;> rfl
end
end
section
/-! BundleAssembler: decoding and carrying out the packed program -/
section
variable {ct bn pk op fr ft wr gs ap fs tk : Int32} {a1 a2 a3 a4 a5 a6 a7 a8 a9 a10 a11 a12 a13 a14 : Nat → Int32}
theorem ba_w2f : ∀ k, k < 256 → (ba_w2 (nI k - 128) &&& 15) - 1 = 6 ∧ (ba_w2 (nI k - 128) >>> ((4 : Int32) &&& 31)) &&& 7 = 2 ∧ (ba_w2 (nI k - 128) >>> ((7 : Int32) &&& 31)) &&& 7 = 2 ∧ (ba_w2 (nI k - 128) >>> ((10 : Int32) &&& 31)) - 128 = nI k - 128 ∧ ¬ ba_w2 (nI k - 128) = 0 := by decide +kernel
/-- the codes as the units know them, and the units -/
def ba_n (p : Nat) : Int32 := [1, 0, 6, 0, 6, 6, 0].getD p 0
def ba_u (p : Nat) : Int32 := [1, 2, 2, 1, 2, 2, 4].getD p 0
theorem ba_dec {k p : Nat} (hk : k < 256) (hp : p < 7) : (ba_w (nI k - 128) p &&& 15) - 1 = ba_n p ∧ (ba_w (nI k - 128) p >>> ((4 : Int32) &&& 31)) &&& 7 = ba_d p ∧ (ba_w (nI k - 128) p >>> ((7 : Int32) &&& 31)) &&& 7 = ba_f p ∧ (ba_w (nI k - 128) p >>> ((10 : Int32) &&& 31)) - 128 = ba_b (nI k - 128) p ∧ ¬ ba_w (nI k - 128) p = 0 := by
  rcases (by omega : p = 0 ∨ p = 1 ∨ p = 2 ∨ p = 3 ∨ p = 4 ∨ p = 5 ∨ p = 6) with e | e | e | e | e | e | e <;> subst e
  · exact (by decide +kernel : ((132514 : Int32) &&& 15) - 1 = 1 ∧ ((132514 : Int32) >>> ((4 : Int32) &&& 31)) &&& 7 = 2 ∧ ((132514 : Int32) >>> ((7 : Int32) &&& 31)) &&& 7 = 3 ∧ ((132514 : Int32) >>> ((10 : Int32) &&& 31)) - 128 = 1 ∧ ¬ (132514 : Int32) = 0)
  · exact (by decide +kernel : ((135457 : Int32) &&& 15) - 1 = 0 ∧ ((135457 : Int32) >>> ((4 : Int32) &&& 31)) &&& 7 = 2 ∧ ((135457 : Int32) >>> ((7 : Int32) &&& 31)) &&& 7 = 2 ∧ ((135457 : Int32) >>> ((10 : Int32) &&& 31)) - 128 = 4 ∧ ¬ (135457 : Int32) = 0)
  · exact ba_w2f k hk
  · exact (by decide +kernel : ((132561 : Int32) &&& 15) - 1 = 0 ∧ ((132561 : Int32) >>> ((4 : Int32) &&& 31)) &&& 7 = 5 ∧ ((132561 : Int32) >>> ((7 : Int32) &&& 31)) &&& 7 = 3 ∧ ((132561 : Int32) >>> ((10 : Int32) &&& 31)) - 128 = 1 ∧ ¬ (132561 : Int32) = 0)
  · exact (by decide +kernel : ((132535 : Int32) &&& 15) - 1 = 6 ∧ ((132535 : Int32) >>> ((4 : Int32) &&& 31)) &&& 7 = 3 ∧ ((132535 : Int32) >>> ((7 : Int32) &&& 31)) &&& 7 = 3 ∧ ((132535 : Int32) >>> ((10 : Int32) &&& 31)) - 128 = 1 ∧ ¬ (132535 : Int32) = 0)
  · exact (by decide +kernel : ((130199 : Int32) &&& 15) - 1 = 6 ∧ ((130199 : Int32) >>> ((4 : Int32) &&& 31)) &&& 7 = 1 ∧ ((130199 : Int32) >>> ((7 : Int32) &&& 31)) &&& 7 = 1 ∧ ((130199 : Int32) >>> ((10 : Int32) &&& 31)) - 128 = -1 ∧ ¬ (130199 : Int32) = 0)
  · exact (by decide +kernel : ((131201 : Int32) &&& 15) - 1 = 0 ∧ ((131201 : Int32) >>> ((4 : Int32) &&& 31)) &&& 7 = 0 ∧ ((131201 : Int32) >>> ((7 : Int32) &&& 31)) &&& 7 = 1 ∧ ((131201 : Int32) >>> ((10 : Int32) &&& 31)) - 128 = 0 ∧ ¬ (131201 : Int32) = 0)
theorem ba_shl : ∀ b, b < 3 → ba_sh b < 6 := by decide
theorem ba_uF : ∀ p, p < 7 → ((ba_tm (ba_sh (p / 3)) >>> ((3 * nI (p % 3)) &&& 31)) &&& 7) = ba_u p := by decide +kernel
theorem ba_unitP {post : Int32 → Prop} {g : Int32} {p : Nat} (hp : p < 7) (P : ba_P g a5 a8 a9 a10) (H : post (ba_u p)) : wpX_unitAt post (ct, bn, pk, op, fr, ft, wr, gs, ap, fs, tk, a1, a2, a3, a4, a5, a6, a7, a8, a9, a10, a11, a12, a13, a14) (nI p) :=
  ba_unit (sh := ba_sh (p / 3)) (tm := ba_tm (ba_sh (p / 3))) (by omega) (P.2.2.2 (p / 3) (by omega)) (ba_shl _ (by omega)) (P.1 _ (ba_shl _ (by omega))) (ba_uF p hp) H
def ba_dk (n u : Int32) : Int32 := if u = 4 then 9 + n else if 2 ≤ n then (if n = 6 then 6 else n - 2) else if u = 1 then 7 + n else 4 + n
theorem ba_dkF : ∀ p, p < 7 → ba_dk (ba_n p) (ba_u p) = ba_k p := by decide +kernel
theorem ba_a8 {g : Int32} {p : Nat} (hp : p < 9) (P : ba_P g a5 a8 a9 a10) : a8 (nI p).toNatClampNeg = ba_w g p := by
  rw [nI_clamp (by omega), P.2.1 p hp]
theorem ba_kind {post : Int32 → Prop} {k p : Nat} (hk : k < 256) (hp : p < 7) (P : ba_P (nI k - 128) a5 a8 a9 a10) (H : post (ba_k p)) : wpX_kindAt post (ct, bn, pk, op, fr, ft, wr, gs, ap, fs, tk, a1, a2, a3, a4, a5, a6, a7, a8, a9, a10, a11, a12, a13, a14) (nI p) := by
  refine And.intro (pk_in p 72 (by omega)) (nm_r (e' := ba_n p) (by rw [ba_a8 (by omega) P]; exact (ba_dec hk hp).1) (ba_unitP hp P ?_))
  rw [← ba_dkF p hp] at H
  unfold ba_dk at H
  refine br_c (fun c => ?_) (fun c => br_c (fun d => br_c (fun e => ?_) (fun e => ?_)) (fun d => br_c (fun e => ?_) (fun e => ?_)))
  · rw [if_pos c] at H
    exact H
  · rw [if_neg c, if_pos d, if_pos e] at H
    exact H
  · rw [if_neg c, if_pos d, if_neg e] at H
    exact H
  · rw [if_neg c, if_neg d, if_pos e] at H
    exact H
  · rw [if_neg c, if_neg d, if_neg e] at H
    exact H
theorem ba_dest {post : Int32 → Prop} {k p : Nat} (hk : k < 256) (hp : p < 7) (P : ba_P (nI k - 128) a5 a8 a9 a10) (H : post (ba_d p)) : wpX_destAt post (ct, bn, pk, op, fr, ft, wr, gs, ap, fs, tk, a1, a2, a3, a4, a5, a6, a7, a8, a9, a10, a11, a12, a13, a14) (nI p) := by
  refine And.intro (pk_in p 72 (by omega)) ?_
  rw [ba_a8 (by omega) P, (ba_dec hk hp).2.1]
  exact H
theorem ba_first {post : Int32 → Prop} {k p : Nat} (hk : k < 256) (hp : p < 7) (P : ba_P (nI k - 128) a5 a8 a9 a10) (H : post (ba_f p)) : wpX_firstAt post (ct, bn, pk, op, fr, ft, wr, gs, ap, fs, tk, a1, a2, a3, a4, a5, a6, a7, a8, a9, a10, a11, a12, a13, a14) (nI p) := by
  refine And.intro (pk_in p 72 (by omega)) ?_
  rw [ba_a8 (by omega) P, (ba_dec hk hp).2.2.1]
  exact H
theorem ba_second {post : Int32 → Prop} {k p : Nat} (hk : k < 256) (hp : p < 7) (P : ba_P (nI k - 128) a5 a8 a9 a10) (H : post (ba_b (nI k - 128) p)) : wpX_secondAt post (ct, bn, pk, op, fr, ft, wr, gs, ap, fs, tk, a1, a2, a3, a4, a5, a6, a7, a8, a9, a10, a11, a12, a13, a14) (nI p) := by
  refine And.intro (pk_in p 72 (by omega)) ?_
  rw [ba_a8 (by omega) P, (ba_dec hk hp).2.2.2.1]
  exact H
theorem ba_nz {k p : Nat} (hk : k < 256) (hp : p < 7) (P : ba_P (nI k - 128) a5 a8 a9 a10) : ¬ a8 (nI p).toNatClampNeg = 0 := by
  rw [ba_a8 (by omega) P]
  exact (ba_dec hk hp).2.2.2.2
theorem ba_z {g : Int32} {p : Nat} (h7 : 7 ≤ p) (hp : p < 9) (P : ba_P g a5 a8 a9 a10) : a8 (nI p).toNatClampNeg = 0 := by
  rw [ba_a8 hp P]
  rcases (by omega : p = 7 ∨ p = 8) with e | e <;> subst e <;> rfl
theorem ba_reals {post : Int32 → Prop} {k p : Nat} (hk : k < 256) (hp : p ≤ 9) (P : ba_P (nI k - 128) a5 a8 a9 a10) (H : post (nI (min p 7))) : wpX_realsBefore post (ct, 3, pk, op, fr, ft, wr, gs, ap, fs, tk, a1, a2, a3, a4, a5, a6, a7, a8, a9, a10, a11, a12, a13, a14) (nI p) := by
  refine pk_loop (σ := Unit) (fun n i _ => wX_realsBefore_4 post (nI p) ct 3 pk op fr ft wr gs ap fs tk a1 a2 a3 a4 a5 a6 a7 a8 a9 a10 a11 a12 a13 a14 n (nI (min i 7)) (nI i)) (fun _ _ => True) p 0 () (by omega) trivial ?_ ?_
  · intro n _ _
    exact pk_le p p (fun _ => H) (fun z => absurd z (by omega))
  · intro n i _ hi _ hw
    have t : wX_realsBefore_4 post (nI p) ct 3 pk op fr ft wr gs ap fs tk a1 a2 a3 a4 a5 a6 a7 a8 a9 a10 a11 a12 a13 a14 n (nI (min (i + 1) 7)) (nI (i + 1)) := hw () trivial
    refine pk_le p i (fun z => absurd z (by omega)) (fun _ => pk_le 9 i (fun z => absurd z (by omega)) (fun _ => And.intro (pk_in i 72 (by omega)) ?_))
    by_cases c : i < 7
    · rw [show min (i + 1) 7 = min i 7 + 1 by omega] at t
      exact br_f (ba_nz hk c P) (nm_r (nI_1 _) (nm_r (nI_1 i) t))
    · rw [show min (i + 1) 7 = min i 7 by omega] at t
      exact br_t (ba_z (by omega) (by omega) P) (nm_r (nI_1 i) t)
theorem ba_skip {post : St2 → Prop} {k p : Nat} (hk : k < 256) (hp : p < 7) (P : ba_P (nI k - 128) a5 a8 a9 a10) (H : post (ct, 3, pk, op, fr, ft, wr, gs, nI p, fs, tk, a1, a2, a3, a4, a5, a6, a7, a8, a9, a10, a11, a12, a13, a14)) : wpX_skipEmpty post (ct, 3, pk, op, fr, ft, wr, gs, nI p, fs, tk, a1, a2, a3, a4, a5, a6, a7, a8, a9, a10, a11, a12, a13, a14) :=
  Exists.intro (0 + 1) (pk_le 9 p (fun z => absurd z (by omega)) (fun _ => And.intro (pk_in p 72 (by omega)) (br_f (ba_nz hk hp P) H)))
theorem ba_skip9 {post : St2 → Prop} (H : post (ct, 3, pk, op, fr, ft, wr, gs, nI 9, fs, tk, a1, a2, a3, a4, a5, a6, a7, a8, a9, a10, a11, a12, a13, a14)) : wpX_skipEmpty post (ct, 3, pk, op, fr, ft, wr, gs, nI 9, fs, tk, a1, a2, a3, a4, a5, a6, a7, a8, a9, a10, a11, a12, a13, a14) :=
  Exists.intro (0 + 1) (br_t (by decide) H)
theorem ba_skip7 {post : St2 → Prop} {g : Int32} (P : ba_P g a5 a8 a9 a10) (H : post (ct, 3, pk, op, fr, ft, wr, gs, nI 9, fs, tk, a1, a2, a3, a4, a5, a6, a7, a8, a9, a10, a11, a12, a13, a14)) : wpX_skipEmpty post (ct, 3, pk, op, fr, ft, wr, gs, nI 7, fs, tk, a1, a2, a3, a4, a5, a6, a7, a8, a9, a10, a11, a12, a13, a14) :=
  Exists.intro (0 + 1 + 1 + 1) (br_f (by decide) (And.intro (pk_in 7 72 (by omega)) (br_t (ba_z (by omega) (by omega) P) (nm_r (nI_1 7) (br_f (by decide) (And.intro (pk_in 8 72 (by omega)) (br_t (ba_z (by omega) (by omega) P) (nm_r (nI_1 8) (br_t (by decide) H)))))))))
theorem ba_fill {f s : Nat → Int32} {i k : Nat} {x : Int32} (hk : k = i) (h : ∀ j, j < i → s j = f j) (hx : x = f i) : ∀ j, j < i + 1 → upd s k x j = f j := by
  intro j hj
  rw [hk]
  by_cases e : j = i
  · rw [e, pk_us, hx]
  · rw [pk_un e]
    exact h j (by omega)
theorem ba_pic {post : St2 → Prop} (H : ∀ b13 b14 : Nat → Int32, (∀ j, j < 8 → b13 j = a11 j) → (∀ j, j < 16 → b14 j = a12 j) → post (ct, bn, pk, op, fr, ft, wr, gs, ap, 0, tk, a1, a2, a3, a4, a5, a6, a7, a8, a9, a10, a11, a12, b13, b14)) : wpX_takePicture post (ct, bn, pk, op, fr, ft, wr, gs, ap, fs, tk, a1, a2, a3, a4, a5, a6, a7, a8, a9, a10, a11, a12, a13, a14) := by
  refine pk_loop (fun n k s => wX_takePicture_2 post ct bn pk op fr ft wr gs ap fs tk n (nI k) a1 a2 a3 a4 a5 a6 a7 a8 a9 a10 a11 a12 s a14) (fun k s => ∀ j, j < k → s j = a11 j) 8 0 a13 (by omega) (fun j z => absurd z (by omega)) ?_ ?_
  · intro n b13 e13
    refine br_t (by decide) ?_
    refine pk_loop (fun n k s => wX_takePicture_28 post ct bn pk op fr ft wr gs ap fs tk n (nI k) a1 a2 a3 a4 a5 a6 a7 a8 a9 a10 a11 a12 b13 s) (fun k s => ∀ j, j < k → s j = a12 j) 16 0 a14 (by omega) (fun j z => absurd z (by omega)) ?_ ?_
    · intro n b14 e14
      exact br_t (by decide) (H b13 b14 e13 e14)
    · intro n k s hk h hw
      exact pk_le 16 k (fun z => absurd z (by omega)) (fun _ => And.intro (pk_in k 16 hk) (And.intro (pk_in k 16 hk) (nm_e (nm_r (nI_1 k) (hw _ (ba_fill (nI_clamp (by omega)) h (by rw [nI_clamp (by omega)])))))))
  · intro n k s hk h hw
    exact pk_le 8 k (fun z => absurd z (by omega)) (fun _ => And.intro (pk_in k 8 hk) (And.intro (pk_in k 8 hk) (nm_e (nm_r (nI_1 k) (hw _ (ba_fill (nI_clamp (by omega)) h (by rw [nI_clamp (by omega)])))))))
theorem ba_s01 : ∀ p, p < 7 → ba_s p = 0 ∨ ba_s p = 1 := by decide
theorem ba_bool {x : Int32} (h : x = 0 ∨ x = 1) : narrow .boolean (.int x) = .int x ∧ fits .boolean (.int x) = true := by
  rcases h with e | e <;> subst e <;> exact ⟨rfl, rfl⟩
theorem ba_151 {post : St2 → Prop} {g : Int32} {p : Nat} (hp : p < 7) (P : ba_P g a5 a8 a9 a10) (H : post (ct, bn, pk, op, fr, ft, wr, gs, nI (p + 1), ba_s p, tk, a1, a2, a3, a4, a5, a6, a7, a8, a9, a10, a11, a12, a13, a14)) : wX_carryOut_151 post ct bn pk op fr ft wr gs (nI p) fs tk a1 a2 a3 a4 a5 a6 a7 a8 a9 a10 a11 a12 a13 a14 :=
  And.intro (pk_in p 72 (by omega)) (nm_r (e' := ba_s p) (by rw [nI_clamp (by omega), P.2.2.1 p hp]) (And.intro (ba_bool (ba_s01 p hp)).1 (And.intro (ba_bool (ba_s01 p hp)).2 (nm_r (nI_1 p) H))))
end
end
section
/-! BundleAssembler: carryOut, operation by operation, and the turns of run -/
section
variable {ct bn pk op fr ft wr gs ap fs tk : Int32} {a1 a2 a3 a4 a5 a6 a7 a8 a9 a10 a11 a12 a13 a14 : Nat → Int32}
/-- STORE: the cell behind r3's gets r2 -/
theorem ba_c0 {post : St2 → Prop} {k : Nat} (hk : k < 256) (P : ba_P (nI k - 128) a5 a8 a9 a10) (H : post (ct, 3, pk, op, fr, ft, wr, gs, nI 1, 0, tk, a1, a2, a3, a4, a5, a6, a7, a8, a9, a10, a11, upd a12 ((a13 3 + 1) &&& 15).toNatClampNeg (a13 2), a13, a14)) : wpX_carryOut post (ct, 3, pk, op, fr, ft, wr, gs, nI 0, fs, tk, a1, a2, a3, a4, a5, a6, a7, a8, a9, a10, a11, a12, a13, a14) := by
  unfold wpX_carryOut
  dsimp only
  refine ba_kind hk (by omega) P (ba_dest hk (by omega) P (ba_first hk (by omega) P (And.intro (pk_in 3 8 (by omega)) (nm_r (e' := a13 3) rfl (ba_second hk (by omega) P (br_t (by decide) (br_t (by decide) ?_)))))))
  exact And.intro (pk_in 2 8 (by omega)) (And.intro (pk_andIn _ 4 (by decide) (by omega)) (nm_r (e' := upd a12 ((a13 3 + 1) &&& 15).toNatClampNeg (a13 2)) rfl (ba_151 (p := 0) (by omega) P H)))
theorem ba_sec {post : Int32 → Prop} {k p : Nat} {b : Int32} (hk : k < 256) (hp : p < 7) (P : ba_P (nI k - 128) a5 a8 a9 a10) (hb : ba_b (nI k - 128) p = b) (H : post b) : wpX_secondAt post (ct, bn, pk, op, fr, ft, wr, gs, ap, fs, tk, a1, a2, a3, a4, a5, a6, a7, a8, a9, a10, a11, a12, a13, a14) (nI p) :=
  ba_second hk hp P (by rw [hb]; exact H)
/-- MUL: r2 = r2 * r4 -/
theorem ba_c1 {post : St2 → Prop} {k : Nat} (hk : k < 256) (P : ba_P (nI k - 128) a5 a8 a9 a10) (H : post (ct, 3, pk, op, fr, ft, wr, gs, nI 2, 1, tk, a1, a2, a3, a4, a5, a6, a7, a8, a9, a10, upd a11 2 (a13 2 * a13 4), a12, a13, a14)) : wpX_carryOut post (ct, 3, pk, op, fr, ft, wr, gs, nI 1, fs, tk, a1, a2, a3, a4, a5, a6, a7, a8, a9, a10, a11, a12, a13, a14) := by
  unfold wpX_carryOut
  dsimp only
  refine ba_kind hk (by omega) P (ba_dest hk (by omega) P (ba_first hk (by omega) P (And.intro (pk_in 2 8 (by omega)) (nm_r (e' := a13 2) rfl (ba_sec (b := 4) hk (by omega) P rfl (br_t (by decide) (br_f (by decide) (br_f (by decide) (br_f (by decide) (And.intro (pk_in 4 8 (by omega)) ?_))))))))))
  refine br_f (by decide) (br_f (by decide) (br_f (by decide) (br_f (by decide) (br_t (by decide) (And.intro (pk_in 2 8 (by omega)) ?_)))))
  exact nm_r (e' := upd a11 2 (a13 2 * a13 4)) rfl (ba_151 (p := 1) (by omega) P H)
/-- ADDI: r2 = r2 + g -/
theorem ba_c2 {post : St2 → Prop} {k : Nat} (hk : k < 256) (P : ba_P (nI k - 128) a5 a8 a9 a10) (H : post (ct, 3, pk, op, fr, ft, wr, gs, nI 3, 0, tk, a1, a2, a3, a4, a5, a6, a7, a8, a9, a10, upd a11 2 (a13 2 + (nI k - 128)), a12, a13, a14)) : wpX_carryOut post (ct, 3, pk, op, fr, ft, wr, gs, nI 2, fs, tk, a1, a2, a3, a4, a5, a6, a7, a8, a9, a10, a11, a12, a13, a14) := by
  unfold wpX_carryOut
  dsimp only
  refine ba_kind hk (by omega) P (ba_dest hk (by omega) P (ba_first hk (by omega) P (And.intro (pk_in 2 8 (by omega)) (nm_r (e' := a13 2) rfl (ba_second hk (by omega) P (br_t (by decide) (br_f (by decide) (br_f (by decide) (br_t (by decide) (And.intro (pk_in 2 8 (by omega)) ?_))))))))))
  exact nm_r (e' := upd a11 2 (a13 2 + (nI k - 128))) rfl (ba_151 (p := 2) (by omega) P H)
/-- LOAD: r5 = the cell behind r3's -/
theorem ba_c3 {post : St2 → Prop} {k : Nat} (hk : k < 256) (P : ba_P (nI k - 128) a5 a8 a9 a10) (H : post (ct, 3, pk, op, fr, ft, wr, gs, nI 4, 0, tk, a1, a2, a3, a4, a5, a6, a7, a8, a9, a10, upd a11 5 (a14 ((a13 3 + 1) &&& 15).toNatClampNeg), a12, a13, a14)) : wpX_carryOut post (ct, 3, pk, op, fr, ft, wr, gs, nI 3, fs, tk, a1, a2, a3, a4, a5, a6, a7, a8, a9, a10, a11, a12, a13, a14) := by
  unfold wpX_carryOut
  dsimp only
  refine ba_kind hk (by omega) P (ba_dest hk (by omega) P (ba_first hk (by omega) P (And.intro (pk_in 3 8 (by omega)) (nm_r (e' := a13 3) rfl (ba_second hk (by omega) P (br_t (by decide) (br_f (by decide) (br_t (by decide) (And.intro (pk_andIn _ 4 (by decide) (by omega)) (And.intro (pk_in 5 8 (by omega)) ?_))))))))))
  exact nm_r (e' := upd a11 5 (a14 ((a13 3 + 1) &&& 15).toNatClampNeg)) rfl (ba_151 (p := 3) (by omega) P H)
/-- ADDI: r3 = r3 + 1 -/
theorem ba_c4 {post : St2 → Prop} {k : Nat} (hk : k < 256) (P : ba_P (nI k - 128) a5 a8 a9 a10) (H : post (ct, 3, pk, op, fr, ft, wr, gs, nI 5, 0, tk, a1, a2, a3, a4, a5, a6, a7, a8, a9, a10, upd a11 3 (a13 3 + 1), a12, a13, a14)) : wpX_carryOut post (ct, 3, pk, op, fr, ft, wr, gs, nI 4, fs, tk, a1, a2, a3, a4, a5, a6, a7, a8, a9, a10, a11, a12, a13, a14) := by
  unfold wpX_carryOut
  dsimp only
  refine ba_kind hk (by omega) P (ba_dest hk (by omega) P (ba_first hk (by omega) P (And.intro (pk_in 3 8 (by omega)) (nm_r (e' := a13 3) rfl (ba_second hk (by omega) P (br_t (by decide) (br_f (by decide) (br_f (by decide) (br_t (by decide) (And.intro (pk_in 3 8 (by omega)) ?_))))))))))
  exact nm_r (e' := upd a11 3 (a13 3 + 1)) rfl (ba_151 (p := 4) (by omega) P H)
/-- ADDI: r1 = r1 - 1 -/
theorem ba_c5 {post : St2 → Prop} {k : Nat} (hk : k < 256) (P : ba_P (nI k - 128) a5 a8 a9 a10) (H : post (ct, 3, pk, op, fr, ft, wr, gs, nI 6, 1, tk, a1, a2, a3, a4, a5, a6, a7, a8, a9, a10, upd a11 1 (a13 1 + (-1)), a12, a13, a14)) : wpX_carryOut post (ct, 3, pk, op, fr, ft, wr, gs, nI 5, fs, tk, a1, a2, a3, a4, a5, a6, a7, a8, a9, a10, a11, a12, a13, a14) := by
  unfold wpX_carryOut
  dsimp only
  refine ba_kind hk (by omega) P (ba_dest hk (by omega) P (ba_first hk (by omega) P (And.intro (pk_in 1 8 (by omega)) (nm_r (e' := a13 1) rfl (ba_second hk (by omega) P (br_t (by decide) (br_f (by decide) (br_f (by decide) (br_t (by decide) (And.intro (pk_in 1 8 (by omega)) ?_))))))))))
  exact nm_r (e' := upd a11 1 (a13 1 + (-1))) rfl (ba_151 (p := 5) (by omega) P H)
/-- BNZ: on to the end where r1 is 0, back to slot 0 where it isn't -/
theorem ba_c6 {post : St2 → Prop} {k : Nat} (hk : k < 256) (P : ba_P (nI k - 128) a5 a8 a9 a10) (H0 : a13 1 = 0 → post (ct, 3, pk, op, fr, ft, wr, gs, nI 7, 1, tk, a1, a2, a3, a4, a5, a6, a7, a8, a9, a10, a11, a12, a13, a14)) (H1 : ¬ a13 1 = 0 → post (ct, 3, pk, op, fr, ft, wr, gs, nI 0, 1, tk + 1, a1, a2, a3, a4, a5, a6, a7, a8, a9, a10, a11, a12, a13, a14)) : wpX_carryOut post (ct, 3, pk, op, fr, ft, wr, gs, nI 6, fs, tk, a1, a2, a3, a4, a5, a6, a7, a8, a9, a10, a11, a12, a13, a14) := by
  unfold wpX_carryOut
  dsimp only
  refine ba_kind hk (by omega) P (ba_dest hk (by omega) P (ba_first hk (by omega) P (And.intro (pk_in 1 8 (by omega)) (nm_r (e' := a13 1) rfl (ba_second hk (by omega) P (br_f (by decide) ?_))))))
  unfold wpX_jump
  dsimp only
  refine ba_reals hk (by omega) P (nm_r (e' := nI 7) rfl (br_t (by decide) (br_c (fun c => nm_r (nI_1 6) (H0 c)) (fun c => ?_))))
  exact nm_r (e' := nI 0) rfl (ba_reals hk (by omega) P (br_f (by decide) (nm_e (H1 c))))
/-- a turn of run with the picture at hand -/
theorem ba_t0 {post : Int32 → St2 → Prop} {k p n : Nat} {x1 x2 x3 : Int32} (hk : k < 256) (hp : p < 7) (P : ba_P (nI k - 128) a5 a8 a9 a10) (hx : ¬ x1 ≤ x3) (H : wX_run_57 post (wX_run_21 post x1 n) x1 x2 x3 ct 3 pk op fr ft wr gs (nI p) 0 tk a1 a2 a3 a4 a5 a6 a7 a8 a9 a10 a11 a12 a13 a14) : wX_run_21 post x1 (n + 1) x2 x3 ct 3 pk op fr ft wr gs (nI p) 0 tk a1 a2 a3 a4 a5 a6 a7 a8 a9 a10 a11 a12 a13 a14 :=
  br_f hx (ba_skip hk hp P (pk_lt p 9 (fun _ => br_t rfl H) (fun z => absurd z (by omega))))
/-- a turn of run that takes the picture -/
theorem ba_t1 {post : Int32 → St2 → Prop} {k p n : Nat} {x1 x2 x3 : Int32} (hk : k < 256) (hp : p < 7) (P : ba_P (nI k - 128) a5 a8 a9 a10) (hx : ¬ x1 ≤ x3) (H : ∀ b13 b14 : Nat → Int32, (∀ j, j < 8 → b13 j = a11 j) → (∀ j, j < 16 → b14 j = a12 j) → wX_run_57 post (wX_run_21 post x1 n) x1 x2 x3 ct 3 pk op fr ft wr gs (nI p) 0 tk a1 a2 a3 a4 a5 a6 a7 a8 a9 a10 a11 a12 b13 b14) : wX_run_21 post x1 (n + 1) x2 x3 ct 3 pk op fr ft wr gs (nI p) 1 tk a1 a2 a3 a4 a5 a6 a7 a8 a9 a10 a11 a12 a13 a14 :=
  br_f hx (ba_skip hk hp P (pk_lt p 9 (fun _ => br_f (by decide) (ba_pic H)) (fun z => absurd z (by omega))))
end
end
section
/-! BundleAssembler: the invariant of run: t operations of the law's program have been carried out -/
section
variable {ct bn pk op fr ft wr gs ap fs tk : Int32} {a1 a2 a3 a4 a5 a6 a7 a8 a9 a10 a11 a12 a13 a14 : Nat → Int32}
/-- the values -/
def ba_v (st g : Int32) : Nat → Int32
  | 0 => st
  | i + 1 => ba_v st g i * 3 + g
/-- registers 1 to 4, and the cells: c values stand behind cell fm -/
def ba_C (fm : Nat) (v : Nat → Int32) (c : Nat) (r1 r2 r3 : Int32) (a11 a12 : Nat → Int32) : Prop := a11 1 = r1 ∧ a11 2 = r2 ∧ a11 3 = r3 ∧ a11 4 = 3 ∧ (∀ j, j < c → a12 ((fm + 1 + j) % 16) = v j) ∧ a12 fm = 0
/-- the picture of the second group -/
def ba_X (n fm : Nat) (v : Nat → Int32) (i : Nat) (a13 a14 : Nat → Int32) : Prop := a13 3 = nI (fm + i) ∧ a13 1 = nI (n - i) ∧ a14 ((fm + 1 + i) % 16) = v i
/-- turn i, ahead of operation p -/
def ba_R (n fm : Nat) (v : Nat → Int32) (i p : Nat) (ap fs tk : Int32) (a11 a12 a13 a14 : Nat → Int32) : Prop := match p with
  | 0 => ap = nI 0 ∧ fs = 1 ∧ tk = nI i ∧ ba_C fm v i (nI (n - i)) (v i) (nI (fm + i)) a11 a12
  | 1 => ap = nI 1 ∧ fs = 0 ∧ tk = nI i ∧ ba_C fm v (i + 1) (nI (n - i)) (v i) (nI (fm + i)) a11 a12 ∧ a13 2 = v i ∧ a13 4 = 3
  | 2 => ap = nI 2 ∧ fs = 1 ∧ tk = nI i ∧ ba_C fm v (i + 1) (nI (n - i)) (v i * 3) (nI (fm + i)) a11 a12
  | 3 => ap = nI 3 ∧ fs = 0 ∧ tk = nI i ∧ ba_C fm v (i + 1) (nI (n - i)) (v (i + 1)) (nI (fm + i)) a11 a12 ∧ ba_X n fm v i a13 a14
  | 4 => ap = nI 4 ∧ fs = 0 ∧ tk = nI i ∧ ba_C fm v (i + 1) (nI (n - i)) (v (i + 1)) (nI (fm + i)) a11 a12 ∧ ba_X n fm v i a13 a14 ∧ a11 5 = v i
  | 5 => ap = nI 5 ∧ fs = 0 ∧ tk = nI i ∧ ba_C fm v (i + 1) (nI (n - i)) (v (i + 1)) (nI (fm + i + 1)) a11 a12 ∧ ba_X n fm v i a13 a14 ∧ a11 5 = v i
  | 6 => ap = nI 6 ∧ fs = 1 ∧ tk = nI i ∧ ba_C fm v (i + 1) (nI (n - i - 1)) (v (i + 1)) (nI (fm + i + 1)) a11 a12 ∧ a11 5 = v i
  | _ => False
/-- the end -/
def ba_E (n fm : Nat) (v : Nat → Int32) (ap tk : Int32) (a11 a12 : Nat → Int32) : Prop := (ap = nI 7 ∨ ap = nI 9) ∧ tk = nI (n - 1) ∧ ba_C fm v n 0 (v n) (nI (fm + n)) a11 a12 ∧ a11 5 = v (n - 1)
/-- t operations have been carried out -/
def ba_Q (n fm : Nat) (v : Nat → Int32) (t : Nat) (ap fs tk : Int32) (a11 a12 a13 a14 : Nat → Int32) : Prop := (t < 7 * n ∧ ba_R n fm v (t / 7) (t % 7) ap fs tk a11 a12 a13 a14) ∨ (t = 7 * n ∧ ba_E n fm v ap tk a11 a12)
theorem ba_ix {x : Int32} {fm i : Nat} (hf : fm < 16) (hi : i < 8) (hx : x = nI (fm + i)) : ((x + 1) &&& 15).toNatClampNeg = (fm + 1 + i) % 16 := by
  rw [hx, nI_1, pk_andN (by omega) 4 (by decide), nI_clamp (by omega)]
  omega
theorem ba_r0 {post : Int32 → St2 → Prop} {n fm k i d N : Nat} {x1 : Int32} {v : Nat → Int32} (hk : k < 256) (hn : n ≤ 8) (hf : fm < 16) (hi : i < n) (P : ba_P (nI k - 128) a5 a8 a9 a10) (hx : ¬ x1 ≤ nI d) (R : ba_R n fm v i 0 ap fs tk a11 a12 a13 a14)
    (H : ∀ (bp bs bt : Int32) (b11 b12 b13 b14 : Nat → Int32), ba_R n fm v i 1 bp bs bt b11 b12 b13 b14 → wX_run_21 post x1 N (nI (d + 1)) (nI (d + 1)) ct 3 pk op fr ft wr gs bp bs bt a1 a2 a3 a4 a5 a6 a7 a8 a9 a10 b11 b12 b13 b14) : wX_run_21 post x1 (N + 1) (nI d) (nI d) ct 3 pk op fr ft wr gs ap fs tk a1 a2 a3 a4 a5 a6 a7 a8 a9 a10 a11 a12 a13 a14 := by
  obtain ⟨rfl, rfl, rfl, r1, r2, r3, r4, hc, h0⟩ := R
  refine ba_t1 hk (by omega) P hx (fun b13 b14 e13 e14 => ?_)
  have ei : ((b13 3 + 1) &&& 15).toNatClampNeg = (fm + 1 + i) % 16 := ba_ix hf (by omega) (by rw [e13 3 (by omega), r3])
  have e2 : b13 2 = v i := by rw [e13 2 (by omega), r2]
  unfold wX_run_57
  refine ba_c0 hk P (nm_r (nI_1 d) (nm_r (nI_1 d) (H _ _ _ _ _ _ _ ⟨rfl, rfl, rfl, ⟨r1, r2, r3, r4, fun j hj => ?_, ?_⟩, e2, ?_⟩)))
  · rw [ei, e2]
    by_cases e : j = i
    · rw [e, pk_us]
    · rw [pk_un (by omega)]
      exact hc j (by omega)
  · rw [ei, pk_un (by omega)]
    exact h0
  · rw [e13 4 (by omega), r4]
theorem ba_r1 {post : Int32 → St2 → Prop} {n fm k i d N : Nat} {x1 : Int32} {v : Nat → Int32} (hk : k < 256) (P : ba_P (nI k - 128) a5 a8 a9 a10) (hx : ¬ x1 ≤ nI d) (R : ba_R n fm v i 1 ap fs tk a11 a12 a13 a14)
    (H : ∀ (bp bs bt : Int32) (b11 b12 b13 b14 : Nat → Int32), ba_R n fm v i 2 bp bs bt b11 b12 b13 b14 → wX_run_21 post x1 N (nI (d + 1)) (nI (d + 1)) ct 3 pk op fr ft wr gs bp bs bt a1 a2 a3 a4 a5 a6 a7 a8 a9 a10 b11 b12 b13 b14) : wX_run_21 post x1 (N + 1) (nI d) (nI d) ct 3 pk op fr ft wr gs ap fs tk a1 a2 a3 a4 a5 a6 a7 a8 a9 a10 a11 a12 a13 a14 := by
  obtain ⟨rfl, rfl, rfl, ⟨r1, r2, r3, r4, hc, h0⟩, e2, e4⟩ := R
  refine ba_t0 hk (by omega) P hx ?_
  unfold wX_run_57
  refine ba_c1 hk P (nm_r (nI_1 d) (nm_r (nI_1 d) (H _ _ _ _ _ _ _ ⟨rfl, rfl, rfl, ?_, ?_, ?_, ?_, hc, h0⟩)))
  · rw [pk_un (by omega), r1]
  · rw [pk_us, e2, e4]
  · rw [pk_un (by omega), r3]
  · rw [pk_un (by omega), r4]
theorem ba_r2 {post : Int32 → St2 → Prop} {n fm k i d N : Nat} {x1 : Int32} {v : Nat → Int32} (hk : k < 256) (hv : ∀ i, v (i + 1) = v i * 3 + (nI k - 128)) (P : ba_P (nI k - 128) a5 a8 a9 a10) (hx : ¬ x1 ≤ nI d) (R : ba_R n fm v i 2 ap fs tk a11 a12 a13 a14)
    (H : ∀ (bp bs bt : Int32) (b11 b12 b13 b14 : Nat → Int32), ba_R n fm v i 3 bp bs bt b11 b12 b13 b14 → wX_run_21 post x1 N (nI (d + 1)) (nI (d + 1)) ct 3 pk op fr ft wr gs bp bs bt a1 a2 a3 a4 a5 a6 a7 a8 a9 a10 b11 b12 b13 b14) : wX_run_21 post x1 (N + 1) (nI d) (nI d) ct 3 pk op fr ft wr gs ap fs tk a1 a2 a3 a4 a5 a6 a7 a8 a9 a10 a11 a12 a13 a14 := by
  obtain ⟨rfl, rfl, rfl, r1, r2, r3, r4, hc, h0⟩ := R
  refine ba_t1 hk (by omega) P hx (fun b13 b14 e13 e14 => ?_)
  unfold wX_run_57
  refine ba_c2 hk P (nm_r (nI_1 d) (nm_r (nI_1 d) (H _ _ _ _ _ _ _ ⟨rfl, rfl, rfl, ⟨?_, ?_, ?_, ?_, hc, h0⟩, ?_, ?_, ?_⟩)))
  · rw [pk_un (by omega), r1]
  · rw [pk_us, e13 2 (by omega), r2, hv]
  · rw [pk_un (by omega), r3]
  · rw [pk_un (by omega), r4]
  · rw [e13 3 (by omega), r3]
  · rw [e13 1 (by omega), r1]
  · rw [e14 _ (by omega), hc i (by omega)]
theorem ba_r3 {post : Int32 → St2 → Prop} {n fm k i d N : Nat} {x1 : Int32} {v : Nat → Int32} (hk : k < 256) (hn : n ≤ 8) (hf : fm < 16) (hi : i < n) (P : ba_P (nI k - 128) a5 a8 a9 a10) (hx : ¬ x1 ≤ nI d) (R : ba_R n fm v i 3 ap fs tk a11 a12 a13 a14)
    (H : ∀ (bp bs bt : Int32) (b11 b12 b13 b14 : Nat → Int32), ba_R n fm v i 4 bp bs bt b11 b12 b13 b14 → wX_run_21 post x1 N (nI (d + 1)) (nI (d + 1)) ct 3 pk op fr ft wr gs bp bs bt a1 a2 a3 a4 a5 a6 a7 a8 a9 a10 b11 b12 b13 b14) : wX_run_21 post x1 (N + 1) (nI d) (nI d) ct 3 pk op fr ft wr gs ap fs tk a1 a2 a3 a4 a5 a6 a7 a8 a9 a10 a11 a12 a13 a14 := by
  obtain ⟨rfl, rfl, rfl, ⟨r1, r2, r3, r4, hc, h0⟩, X⟩ := R
  refine ba_t0 hk (by omega) P hx ?_
  unfold wX_run_57
  refine ba_c3 hk P (nm_r (nI_1 d) (nm_r (nI_1 d) (H _ _ _ _ _ _ _ ⟨rfl, rfl, rfl, ⟨?_, ?_, ?_, ?_, hc, h0⟩, X, ?_⟩)))
  · rw [pk_un (by omega), r1]
  · rw [pk_un (by omega), r2]
  · rw [pk_un (by omega), r3]
  · rw [pk_un (by omega), r4]
  · rw [pk_us, ba_ix hf (by omega) X.1, X.2.2]
theorem ba_r4 {post : Int32 → St2 → Prop} {n fm k i d N : Nat} {x1 : Int32} {v : Nat → Int32} (hk : k < 256) (P : ba_P (nI k - 128) a5 a8 a9 a10) (hx : ¬ x1 ≤ nI d) (R : ba_R n fm v i 4 ap fs tk a11 a12 a13 a14)
    (H : ∀ (bp bs bt : Int32) (b11 b12 b13 b14 : Nat → Int32), ba_R n fm v i 5 bp bs bt b11 b12 b13 b14 → wX_run_21 post x1 N (nI (d + 1)) (nI (d + 1)) ct 3 pk op fr ft wr gs bp bs bt a1 a2 a3 a4 a5 a6 a7 a8 a9 a10 b11 b12 b13 b14) : wX_run_21 post x1 (N + 1) (nI d) (nI d) ct 3 pk op fr ft wr gs ap fs tk a1 a2 a3 a4 a5 a6 a7 a8 a9 a10 a11 a12 a13 a14 := by
  obtain ⟨rfl, rfl, rfl, ⟨r1, r2, r3, r4, hc, h0⟩, X, r5⟩ := R
  refine ba_t0 hk (by omega) P hx ?_
  unfold wX_run_57
  refine ba_c4 hk P (nm_r (nI_1 d) (nm_r (nI_1 d) (H _ _ _ _ _ _ _ ⟨rfl, rfl, rfl, ⟨?_, ?_, ?_, ?_, hc, h0⟩, X, ?_⟩)))
  · rw [pk_un (by omega), r1]
  · rw [pk_un (by omega), r2]
  · rw [pk_us, X.1, nI_1]
  · rw [pk_un (by omega), r4]
  · rw [pk_un (by omega), r5]
theorem ba_r5 {post : Int32 → St2 → Prop} {n fm k i d N : Nat} {x1 : Int32} {v : Nat → Int32} (hk : k < 256) (hi : i < n) (P : ba_P (nI k - 128) a5 a8 a9 a10) (hx : ¬ x1 ≤ nI d) (R : ba_R n fm v i 5 ap fs tk a11 a12 a13 a14)
    (H : ∀ (bp bs bt : Int32) (b11 b12 b13 b14 : Nat → Int32), ba_R n fm v i 6 bp bs bt b11 b12 b13 b14 → wX_run_21 post x1 N (nI (d + 1)) (nI (d + 1)) ct 3 pk op fr ft wr gs bp bs bt a1 a2 a3 a4 a5 a6 a7 a8 a9 a10 b11 b12 b13 b14) : wX_run_21 post x1 (N + 1) (nI d) (nI d) ct 3 pk op fr ft wr gs ap fs tk a1 a2 a3 a4 a5 a6 a7 a8 a9 a10 a11 a12 a13 a14 := by
  obtain ⟨rfl, rfl, rfl, ⟨r1, r2, r3, r4, hc, h0⟩, X, r5⟩ := R
  refine ba_t0 hk (by omega) P hx ?_
  unfold wX_run_57
  refine ba_c5 hk P (nm_r (nI_1 d) (nm_r (nI_1 d) (H _ _ _ _ _ _ _ ⟨rfl, rfl, rfl, ⟨?_, ?_, ?_, ?_, hc, h0⟩, ?_⟩)))
  · rw [pk_us, X.2.1, sb_m1 (by omega)]
  · rw [pk_un (by omega), r2]
  · rw [pk_un (by omega), r3]
  · rw [pk_un (by omega), r4]
  · rw [pk_un (by omega), r5]
theorem ba_r6 {post : Int32 → St2 → Prop} {n fm k i d N : Nat} {x1 : Int32} {v : Nat → Int32} (hk : k < 256) (hn : n ≤ 8) (hi : i < n) (P : ba_P (nI k - 128) a5 a8 a9 a10) (hx : ¬ x1 ≤ nI d) (R : ba_R n fm v i 6 ap fs tk a11 a12 a13 a14)
    (H : ∀ (bp bs bt : Int32) (b11 b12 b13 b14 : Nat → Int32), (i + 1 < n ∧ ba_R n fm v (i + 1) 0 bp bs bt b11 b12 b13 b14) ∨ (i + 1 = n ∧ ba_E n fm v bp bt b11 b12) → wX_run_21 post x1 N (nI (d + 1)) (nI (d + 1)) ct 3 pk op fr ft wr gs bp bs bt a1 a2 a3 a4 a5 a6 a7 a8 a9 a10 b11 b12 b13 b14) : wX_run_21 post x1 (N + 1) (nI d) (nI d) ct 3 pk op fr ft wr gs ap fs tk a1 a2 a3 a4 a5 a6 a7 a8 a9 a10 a11 a12 a13 a14 := by
  obtain ⟨rfl, rfl, rfl, ⟨r1, r2, r3, r4, hc, h0⟩, r5⟩ := R
  refine ba_t1 hk (by omega) P hx (fun b13 b14 e13 e14 => ?_)
  have e1 : b13 1 = nI (n - i - 1) := by rw [e13 1 (by omega), r1]
  unfold wX_run_57
  refine ba_c6 hk P (fun c => nm_r (nI_1 d) (nm_r (nI_1 d) (H _ _ _ _ _ _ _ (Or.inr ?_)))) (fun c => nm_r (nI_1 d) (nm_r (nI_1 d) (H _ _ _ _ _ _ _ (Or.inl ?_))))
  · have hn1 : i + 1 = n := by
      rw [e1, show (0 : Int32) = nI 0 from rfl, nI_eq (by omega) (by omega)] at c
      omega
    subst hn1
    refine ⟨rfl, Or.inl rfl, by rw [Nat.add_sub_cancel], ⟨?_, r2, r3, r4, hc, h0⟩, ?_⟩
    · rw [r1, show i + 1 - i - 1 = 0 by omega]
      rfl
    · rw [r5, Nat.add_sub_cancel]
  · have hn1 : i + 1 < n := by
      rcases Nat.lt_or_ge (i + 1) n with z | z
      · exact z
      · refine absurd ?_ c
        rw [e1, show n - i - 1 = 0 by omega]
        rfl
    refine ⟨hn1, rfl, rfl, nI_1 i, ?_, r2, ?_, r4, hc, h0⟩
    · rw [r1, Nat.sub_sub]
    · rw [r3, Nat.add_assoc]
/-- one operation -/
theorem ba_qs {post : Int32 → St2 → Prop} {n fm k t d N : Nat} {x1 : Int32} {v : Nat → Int32} (hk : k < 256) (hn : n ≤ 8) (hf : fm < 16) (hv : ∀ i, v (i + 1) = v i * 3 + (nI k - 128)) (P : ba_P (nI k - 128) a5 a8 a9 a10) (hx : ¬ x1 ≤ nI d) (ht : t < 7 * n) (Q : ba_Q n fm v t ap fs tk a11 a12 a13 a14)
    (H : ∀ (bp bs bt : Int32) (b11 b12 b13 b14 : Nat → Int32), ba_Q n fm v (t + 1) bp bs bt b11 b12 b13 b14 → wX_run_21 post x1 N (nI (d + 1)) (nI (d + 1)) ct 3 pk op fr ft wr gs bp bs bt a1 a2 a3 a4 a5 a6 a7 a8 a9 a10 b11 b12 b13 b14) : wX_run_21 post x1 (N + 1) (nI d) (nI d) ct 3 pk op fr ft wr gs ap fs tk a1 a2 a3 a4 a5 a6 a7 a8 a9 a10 a11 a12 a13 a14 := by
  rcases Q with ⟨_, R⟩ | ⟨z, _⟩
  rotate_left
  · exact absurd z (by omega)
  obtain ⟨i, p, e, hp⟩ : ∃ i p, t = 7 * i + p ∧ p < 7 := ⟨t / 7, t % 7, by omega, by omega⟩
  have hi : i < n := by omega
  rw [show t / 7 = i by omega, show t % 7 = p by omega] at R
  rcases (by omega : p = 0 ∨ p = 1 ∨ p = 2 ∨ p = 3 ∨ p = 4 ∨ p = 5 ∨ p = 6) with z | z | z | z | z | z | z <;> subst z
  · exact ba_r0 hk hn hf hi P hx R (fun bp bs bt b11 b12 b13 b14 S => H bp bs bt b11 b12 b13 b14 (Or.inl ⟨by omega, by rw [show (t + 1) / 7 = i by omega, show (t + 1) % 7 = 1 by omega]; exact S⟩))
  · exact ba_r1 hk P hx R (fun bp bs bt b11 b12 b13 b14 S => H bp bs bt b11 b12 b13 b14 (Or.inl ⟨by omega, by rw [show (t + 1) / 7 = i by omega, show (t + 1) % 7 = 2 by omega]; exact S⟩))
  · exact ba_r2 hk hv P hx R (fun bp bs bt b11 b12 b13 b14 S => H bp bs bt b11 b12 b13 b14 (Or.inl ⟨by omega, by rw [show (t + 1) / 7 = i by omega, show (t + 1) % 7 = 3 by omega]; exact S⟩))
  · exact ba_r3 hk hn hf hi P hx R (fun bp bs bt b11 b12 b13 b14 S => H bp bs bt b11 b12 b13 b14 (Or.inl ⟨by omega, by rw [show (t + 1) / 7 = i by omega, show (t + 1) % 7 = 4 by omega]; exact S⟩))
  · exact ba_r4 hk P hx R (fun bp bs bt b11 b12 b13 b14 S => H bp bs bt b11 b12 b13 b14 (Or.inl ⟨by omega, by rw [show (t + 1) / 7 = i by omega, show (t + 1) % 7 = 5 by omega]; exact S⟩))
  · exact ba_r5 hk hi P hx R (fun bp bs bt b11 b12 b13 b14 S => H bp bs bt b11 b12 b13 b14 (Or.inl ⟨by omega, by rw [show (t + 1) / 7 = i by omega, show (t + 1) % 7 = 6 by omega]; exact S⟩))
  · refine ba_r6 hk hn hi P hx R (fun bp bs bt b11 b12 b13 b14 S => H bp bs bt b11 b12 b13 b14 ?_)
    rcases S with ⟨z, S⟩ | ⟨z, S⟩
    · exact Or.inl ⟨by omega, by rw [show (t + 1) / 7 = i + 1 by omega, show (t + 1) % 7 = 0 by omega]; exact S⟩
    · exact Or.inr ⟨by omega, S⟩
end
end
section
/-! BundleAssembler: run, place, over, and the law's own loop -/
section
variable {ct bn pk op fr ft wr gs ap fs tk : Int32} {a1 a2 a3 a4 a5 a6 a7 a8 a9 a10 a11 a12 a13 a14 : Nat → Int32}
theorem ba_runL {post : Int32 → St2 → Prop} {n fm k : Nat} {v : Nat → Int32} (hk : k < 256) (hn : n ≤ 8) (hf : fm < 16) (hv : ∀ i, v (i + 1) = v i * 3 + (nI k - 128)) (P : ba_P (nI k - 128) a5 a8 a9 a10) :
    ∀ (r d t : Nat) (ap fs tk : Int32) (a11 a12 a13 a14 : Nat → Int32), d + r < 2 ^ 31 → t ≤ 7 * n → ba_Q n fm v t ap fs tk a11 a12 a13 a14 →
      (∀ (bp bs bt : Int32) (b11 b12 b13 b14 : Nat → Int32), ba_Q n fm v (t + min r (7 * n - t)) bp bs bt b11 b12 b13 b14 → post (nI (d + min r (7 * n - t))) (ct, 3, pk, op, fr, ft, wr, gs, bp, bs, bt, a1, a2, a3, a4, a5, a6, a7, a8, a9, a10, b11, b12, b13, b14)) → wX_run_21 post (nI (d + r)) (r + 1) (nI d) (nI d) ct 3 pk op fr ft wr gs ap fs tk a1 a2 a3 a4 a5 a6 a7 a8 a9 a10 a11 a12 a13 a14 := by
  intro r
  induction r with
  | zero =>
    intro d t ap fs tk a11 a12 a13 a14 hd ht Q H
    have h := H ap fs tk a11 a12 a13 a14
    rw [Nat.zero_min] at h
    exact br_t (nI_le (Nat.le_refl d) (by omega)) (h Q)
  | succ r ih =>
    intro d t ap fs tk a11 a12 a13 a14 hd ht Q H
    have hx : ¬ nI (d + (r + 1)) ≤ nI d := nI_ge (by omega) hd
    by_cases c : t < 7 * n
    · refine ba_qs hk hn hf hv P hx c Q (fun bp bs bt b11 b12 b13 b14 S => ?_)
      have t2 := ih (d + 1) (t + 1) bp bs bt b11 b12 b13 b14 (by omega) (by omega) S
      rw [show d + 1 + r = d + (r + 1) by omega, show t + 1 + min r (7 * n - (t + 1)) = t + min (r + 1) (7 * n - t) by omega, show d + 1 + min r (7 * n - (t + 1)) = d + min (r + 1) (7 * n - t) by omega] at t2
      exact t2 H
    · rcases Q with ⟨z, _⟩ | ⟨z, E⟩
      · exact absurd z c
      · have h : ∀ (bp bs bt : Int32) (b11 b12 b13 b14 : Nat → Int32), ba_E n fm v bp bt b11 b12 → post (nI d) (ct, 3, pk, op, fr, ft, wr, gs, bp, bs, bt, a1, a2, a3, a4, a5, a6, a7, a8, a9, a10, b11, b12, b13, b14) := by
          intro bp bs bt b11 b12 b13 b14 S
          have h := H bp bs bt b11 b12 b13 b14
          rw [show min (r + 1) (7 * n - t) = 0 by omega] at h
          exact h (Or.inr ⟨z, S⟩)
        obtain ⟨e, E2⟩ := E
        rcases e with e | e <;> subst e
        · exact br_f hx (ba_skip7 P (br_f (by decide) (h _ _ _ _ _ _ _ ⟨Or.inr rfl, E2⟩)))
        · exact br_f hx (ba_skip9 (br_f (by decide) (h _ _ _ _ _ _ _ ⟨Or.inr rfl, E2⟩)))
/-- run over the packed program -/
theorem ba_run {post : Int32 → St2 → Prop} {n fm k t m : Nat} {v : Nat → Int32} (hk : k < 256) (hn : n ≤ 8) (hf : fm < 16) (hv : ∀ i, v (i + 1) = v i * 3 + (nI k - 128)) (P : ba_P (nI k - 128) a5 a8 a9 a10) (hm : m ≤ 400) (ht : t ≤ 7 * n) (Q : ba_Q n fm v t ap fs tk a11 a12 a13 a14)
    (H : ∀ (bp bs bt : Int32) (b11 b12 b13 b14 : Nat → Int32), ba_Q n fm v (t + min m (7 * n - t)) bp bs bt b11 b12 b13 b14 → post (nI (min m (7 * n - t))) (ct, 3, 1, op, fr, ft, wr, gs, bp, bs, bt, a1, a2, a3, a4, a5, a6, a7, a8, a9, a10, b11, b12, b13, b14)) : wpX_run post (ct, 3, 1, op, fr, ft, wr, gs, ap, fs, tk, a1, a2, a3, a4, a5, a6, a7, a8, a9, a10, a11, a12, a13, a14) (nI m) := by
  have L := ba_runL (post := post) (ct := ct) (pk := 1) (op := op) (fr := fr) (ft := ft) (wr := wr) (gs := gs) (a1 := a1) (a2 := a2) (a3 := a3) (a4 := a4) (a6 := a6) (a7 := a7) hk hn hf hv P m 0 t ap fs tk a11 a12 a13 a14 (by omega) ht Q (fun bp bs bt b11 b12 b13 b14 S => by rw [Nat.zero_add]; exact H bp bs bt b11 b12 b13 b14 S)
  rw [Nat.zero_add] at L
  exact br_f (nI_pos (by omega)) (pk_le m 400 (fun _ => br_f (by decide) ⟨_, L⟩) (fun z => absurd z (by omega)))
/-- the first run packs -/
theorem ba_run1 {post : Int32 → St2 → Prop} {n fm k t m : Nat} {v : Nat → Int32} (hk : k < 256) (hn : n ≤ 8) (hf : fm < 16) (hv : ∀ i, v (i + 1) = v i * 3 + (nI k - 128)) (hm : m ≤ 400) (ht : t ≤ 7 * n) (Q : ba_Q n fm v t ap fs tk a11 a12 a13 a14)
    (h1 : ∀ i, i < 7 → a1 i = ba_k i) (h2 : ∀ i, i < 7 → a2 i = ba_d i) (h3 : ∀ i, i < 7 → a3 i = ba_f i) (h4 : ∀ i, i < 7 → a4 i = ba_b (nI k - 128) i) (h5 : ∀ t, t < 6 → a5 t = ba_tm t)
    (H : ∀ (bo br bf bw bg bp bs bt : Int32) (b6 b7 b8 b9 b10 b11 b12 b13 b14 : Nat → Int32), ba_P (nI k - 128) a5 b8 b9 b10 → ba_Q n fm v (t + min m (7 * n - t)) bp bs bt b11 b12 b13 b14 → post (nI (min m (7 * n - t))) (nI 7, 3, 1, bo, br, bf, bw, bg, bp, bs, bt, a1, a2, a3, a4, a5, b6, b7, b8, b9, b10, b11, b12, b13, b14)) : wpX_run post (nI 7, bn, 0, op, fr, ft, wr, gs, ap, fs, tk, a1, a2, a3, a4, a5, a6, a7, a8, a9, a10, a11, a12, a13, a14) (nI m) := by
  refine br_f (nI_pos (by omega)) (pk_le m 400 (fun _ => ba_pack h1 h2 h3 h4 h5 (fun b6 b7 b8 b9 b10 P => ?_)) (fun z => absurd z (by omega)))
  have L := ba_runL (post := post) (ct := nI 7) (pk := 1) (op := -1) (fr := nI 1) (ft := 32) (wr := 0) (gs := nI 7) (a1 := a1) (a2 := a2) (a3 := a3) (a4 := a4) (a6 := b6) (a7 := b7) hk hn hf hv P m 0 t ap fs tk a11 a12 a13 a14 (by omega) ht Q (fun bp bs bt b11 b12 b13 b14 S => by rw [Nat.zero_add]; exact H _ _ _ _ _ bp bs bt b6 b7 b8 b9 b10 b11 b12 b13 b14 P S)
  rw [Nat.zero_add] at L
  exact ⟨_, L⟩
theorem ba_Rap {n fm i p : Nat} {v : Nat → Int32} (hp : p < 7) (R : ba_R n fm v i p ap fs tk a11 a12 a13 a14) : ap = nI p := by
  rcases (by omega : p = 0 ∨ p = 1 ∨ p = 2 ∨ p = 3 ∨ p = 4 ∨ p = 5 ∨ p = 6) with z | z | z | z | z | z | z <;> subst z <;> exact R.1
theorem ba_place {post : Int32 → St2 → Prop} {n fm k t : Nat} {v : Nat → Int32} (hk : k < 256) (P : ba_P (nI k - 128) a5 a8 a9 a10) (Q : ba_Q n fm v t ap fs tk a11 a12 a13 a14) (H : post (nI (if t < 7 * n then t % 7 else 7)) (ct, 3, 1, op, fr, ft, wr, gs, ap, fs, tk, a1, a2, a3, a4, a5, a6, a7, a8, a9, a10, a11, a12, a13, a14)) : wpX_place post (ct, 3, 1, op, fr, ft, wr, gs, ap, fs, tk, a1, a2, a3, a4, a5, a6, a7, a8, a9, a10, a11, a12, a13, a14) := by
  unfold wpX_place
  dsimp only
  refine br_f (by decide) ?_
  rcases Q with ⟨z, R⟩ | ⟨z, E⟩
  · have e := ba_Rap (Nat.mod_lt _ (by omega)) R
    rw [if_pos z] at H
    subst e
    refine ba_reals hk (by omega) P ?_
    rw [show min (t % 7) 7 = t % 7 by omega]
    exact H
  · rw [if_neg (by omega)] at H
    rcases E.1 with e | e <;> subst e
    · exact ba_reals hk (by omega) P H
    · exact ba_reals hk (by omega) P H
theorem ba_reg {post : Int32 → Prop} {r : Nat} (hr : r < 8) (H : post (a11 r)) : wpX_register post (ct, bn, pk, op, fr, ft, wr, gs, ap, fs, tk, a1, a2, a3, a4, a5, a6, a7, a8, a9, a10, a11, a12, a13, a14) (nI r) := by
  refine br_f (nI_pos (by omega)) (pk_le r 7 (fun _ => And.intro (pk_in r 8 hr) ?_) (fun z => absurd z (by omega)))
  rw [nI_clamp (by omega)]
  exact H
theorem ba_cell {post : Int32 → Prop} {r : Nat} (hr : r < 16) (H : post (a12 r)) : wpX_cell post (ct, bn, pk, op, fr, ft, wr, gs, ap, fs, tk, a1, a2, a3, a4, a5, a6, a7, a8, a9, a10, a11, a12, a13, a14) (nI r) := by
  refine br_f (nI_pos (by omega)) (pk_le r 15 (fun _ => And.intro (pk_in r 16 hr) ?_) (fun z => absurd z (by omega)))
  rw [nI_clamp (by omega)]
  exact H
theorem ba_over {post : Int32 → St2 → Prop} {g : Int32} (P : ba_P g a5 a8 a9 a10) (e : ap = nI 7 ∨ ap = nI 9) (H : post 1 (ct, 3, 1, op, fr, ft, wr, gs, nI 9, fs, tk, a1, a2, a3, a4, a5, a6, a7, a8, a9, a10, a11, a12, a13, a14)) : wpX_over post (ct, 3, 1, op, fr, ft, wr, gs, ap, fs, tk, a1, a2, a3, a4, a5, a6, a7, a8, a9, a10, a11, a12, a13, a14) := by
  unfold wpX_over
  dsimp only
  refine br_f (by decide) ?_
  rcases e with e | e <;> subst e
  · exact ba_skip7 P (br_f (show ¬ nI 9 < 3 * 3 by decide) H)
  · exact ba_skip9 (br_f (show ¬ nI 9 < 3 * 3 by decide) H)
theorem ba_law275 {post : Int32 → St0 → Prop} {mc ms kc ks n fm : Nat} {g : Int32} {v : Nat → Int32} (hn : n ≤ 8) (hn0 : 0 < n) (hf : fm < 16) (hv : ∀ i, v (i + 1) = v i * 3 + g) (P : ba_P g a5 a8 a9 a10) (E : ba_E n fm v ap tk a11 a12) (H : post 1 ()) :
    ∃ N, wL_lawOf_275 post mc ms (nI n) g (nI fm) kc ks ct 3 1 op fr ft wr gs ap fs tk a1 a2 a3 a4 a5 a6 a7 a8 a9 a10 a11 a12 a13 a14 N (v 0) 0 := by
  obtain ⟨ea, et, ⟨r1, r2, r3, r4, hc, h0⟩, r5⟩ := E
  have X : ∃ N, wL_lawOf_275 post mc ms (nI n) g (nI fm) kc ks ct 3 1 op fr ft wr gs ap fs tk a1 a2 a3 a4 a5 a6 a7 a8 a9 a10 a11 a12 a13 a14 N (v (min 0 n)) (nI 0) := by
    refine pk_loop (σ := Unit) (fun N i _ => wL_lawOf_275 post mc ms (nI n) g (nI fm) kc ks ct 3 1 op fr ft wr gs ap fs tk a1 a2 a3 a4 a5 a6 a7 a8 a9 a10 a11 a12 a13 a14 N (v (min i n)) (nI i)) (fun _ _ => True) 8 0 () (by omega) trivial ?_ ?_
    · intro N _ _
      show wL_lawOf_275 post mc ms (nI n) g (nI fm) kc ks ct 3 1 op fr ft wr gs ap fs tk a1 a2 a3 a4 a5 a6 a7 a8 a9 a10 a11 a12 a13 a14 (N + 1) (v (min 8 n)) (nI 8)
      rw [show min 8 n = n by omega]
      refine br_t (by decide) (ba_reg (r := 2) (by omega) (br_t r2 (ba_reg (r := 1) (by omega) (br_t r1 (ba_reg (r := 3) (by omega) (br_t ?_ ?_))))))
      · rw [r3, nI_add]
      · refine br_t ?_ (ba_over P ea (br_t rfl (ba_cell (r := fm) hf (br_t h0 H))))
        rw [et]
        exact (pk_sub (b := 1) hn0).symm
    · intro N i _ hi _ hw
      have t : wL_lawOf_275 post mc ms (nI n) g (nI fm) kc ks ct 3 1 op fr ft wr gs ap fs tk a1 a2 a3 a4 a5 a6 a7 a8 a9 a10 a11 a12 a13 a14 N (v (min (i + 1) n)) (nI (i + 1)) := hw () trivial
      show wL_lawOf_275 post mc ms (nI n) g (nI fm) kc ks ct 3 1 op fr ft wr gs ap fs tk a1 a2 a3 a4 a5 a6 a7 a8 a9 a10 a11 a12 a13 a14 (N + 1) (v (min i n)) (nI i)
      refine pk_le 8 i (fun z => absurd z (by omega)) (fun _ => pk_le n i (fun z => nm_r (nI_1 i) ?_) (fun z => ?_))
      · rw [show min (i + 1) n = min i n by omega] at t
        exact t
      · have ei : min i n = i := by omega
        rw [show min (i + 1) n = i + 1 by omega, hv] at t
        rw [ei]
        have ex : ((nI fm + 1) + nI i) &&& 15 = nI ((fm + 1 + i) % 16) := by
          rw [nI_1, nI_add, pk_andN (by omega) 4 (by decide)]
        have Y : wL_lawOf_333 post mc ms (wL_lawOf_275 post mc ms (nI n) g (nI fm) kc ks ct 3 1 op fr ft wr gs ap fs tk a1 a2 a3 a4 a5 a6 a7 a8 a9 a10 a11 a12 a13 a14 N) (nI n) g (nI fm) (v i) (nI i) kc ks ct 3 1 op fr ft wr gs ap fs tk a1 a2 a3 a4 a5 a6 a7 a8 a9 a10 a11 a12 a13 a14 := nm_e (nm_r (nI_1 i) t)
        rw [ex]
        refine ba_cell (Nat.mod_lt _ (by omega)) (br_t (hc i z) (pk_eq i (n - 1) (fun w => ?_) (fun _ => Y) rfl (pk_sub (b := 1) hn0)))
        refine ba_reg (r := 5) (by omega) (br_t ?_ Y)
        rw [r5, w]
  obtain ⟨N, h⟩ := X
  rw [Nat.zero_min] at h
  exact ⟨N, h⟩
end
end
section
/-! BundleAssembler: emit, setRegister, and the law from the last emit on -/
section
variable {ct bn pk op fr ft wr gs ap fs tk : Int32} {a1 a2 a3 a4 a5 a6 a7 a8 a9 a10 a11 a12 a13 a14 : Nat → Int32}
theorem ba_set {post : Int32 → St2 → Prop} {r : Nat} {x : Int32} (hr : r < 8) (H : post 0 (ct, bn, pk, op, fr, ft, wr, gs, ap, 1, tk, a1, a2, a3, a4, a5, a6, a7, a8, a9, a10, upd a11 r x, a12, a13, a14)) : wpX_setRegister post (ct, bn, pk, op, fr, ft, wr, gs, ap, fs, tk, a1, a2, a3, a4, a5, a6, a7, a8, a9, a10, a11, a12, a13, a14) (nI r) x := by
  refine br_f (nI_pos (by omega)) (pk_le r 7 (fun _ => And.intro (pk_in r 8 hr) (nm_r (e' := upd a11 r x) ?_ H)) (fun z => absurd z (by omega)))
  rw [nI_clamp (by omega)]
theorem ba_e83 {post : Int32 → St2 → Prop} {c : Nat} {kd d a b lo hi : Int32} (hc : c < 24) (h1 : ¬ b < lo) (h2 : b ≤ hi)
    (H : post (nI c) (nI (c + 1), bn, 0, op, fr, ft, wr, gs, 0, 1, 0, upd a1 c kd, upd a2 c d, upd a3 c a, upd a4 c b, a5, a6, a7, a8, a9, a10, a11, a12, a13, a14)) : wX_emit_83 post kd d a b lo hi (nI c) bn pk op fr ft wr gs ap fs tk a1 a2 a3 a4 a5 a6 a7 a8 a9 a10 a11 a12 a13 a14 := by
  have e : (nI c).toNatClampNeg = c := nI_clamp (by omega)
  refine br_f h1 (br_t h2 (pk_eq c 24 (fun z => absurd z (by omega)) (fun _ => And.intro (pk_in c 24 hc) ?_)))
  refine nm_r (e' := upd a1 c kd) (by rw [e]) (And.intro (pk_in c 24 hc) (nm_r (e' := upd a2 c d) (by rw [e]) (And.intro (pk_in c 24 hc) (nm_r (e' := upd a3 c a) (by rw [e]) (And.intro (pk_in c 24 hc) (nm_r (e' := upd a4 c b) (by rw [e]) (nm_r (nI_1 c) ?_)))))))
  unfold wpX_changed
  dsimp only
  rw [nI_pred]
  exact H
/-- ADDI, LOAD, STORE -/
theorem ba_emA {post : Int32 → St2 → Prop} {c : Nat} {kd d a b : Int32} (hc : c < 24) (k0 : ¬ kd < 0) (k10 : kd ≤ 10) (d0 : ¬ d < 0) (d7 : ¬ 7 < d) (f0 : ¬ a < 0) (f7 : a ≤ 7) (k6 : ¬ kd < 6) (k8 : ¬ 8 < kd) (k6' : 6 ≤ kd) (k9 : kd < 9) (b1 : ¬ b < -128) (b2 : b ≤ 127)
    (H : post (nI c) (nI (c + 1), bn, 0, op, fr, ft, wr, gs, 0, 1, 0, upd a1 c kd, upd a2 c d, upd a3 c a, upd a4 c b, a5, a6, a7, a8, a9, a10, a11, a12, a13, a14)) : wpX_emit post (nI c, bn, pk, op, fr, ft, wr, gs, ap, fs, tk, a1, a2, a3, a4, a5, a6, a7, a8, a9, a10, a11, a12, a13, a14) kd d a b :=
  br_f k0 (br_t k10 (br_f d0 (br_f d7 (br_f f0 (br_t f7 (br_f k6 (br_f k8 (br_t k6' (br_t k9 (ba_e83 hc b1 b2 H))))))))))
/-- MUL -/
theorem ba_emM {post : Int32 → St2 → Prop} {c : Nat} {d a b : Int32} (hc : c < 24) (d0 : ¬ d < 0) (d7 : ¬ 7 < d) (f0 : ¬ a < 0) (f7 : a ≤ 7) (b1 : ¬ b < 0) (b2 : b ≤ 7)
    (H : post (nI c) (nI (c + 1), bn, 0, op, fr, ft, wr, gs, 0, 1, 0, upd a1 c 4, upd a2 c d, upd a3 c a, upd a4 c b, a5, a6, a7, a8, a9, a10, a11, a12, a13, a14)) : wpX_emit post (nI c, bn, pk, op, fr, ft, wr, gs, ap, fs, tk, a1, a2, a3, a4, a5, a6, a7, a8, a9, a10, a11, a12, a13, a14) 4 d a b := by
  refine br_f (by decide) (br_t (by decide) (br_f d0 (br_f d7 (br_f f0 (br_t f7 (br_t (by decide) ?_))))))
  exact br_f (by decide) (br_t (by decide) (ba_e83 hc b1 b2 H))
/-- BNZ -/
theorem ba_emJ {post : Int32 → St2 → Prop} {c : Nat} {d a b : Int32} (hc : c < 24) (d0 : ¬ d < 0) (d7 : ¬ 7 < d) (f0 : ¬ a < 0) (f7 : a ≤ 7) (b1 : ¬ b < 0) (b2 : b ≤ 24)
    (H : post (nI c) (nI (c + 1), bn, 0, op, fr, ft, wr, gs, 0, 1, 0, upd a1 c 9, upd a2 c d, upd a3 c a, upd a4 c b, a5, a6, a7, a8, a9, a10, a11, a12, a13, a14)) : wpX_emit post (nI c, bn, pk, op, fr, ft, wr, gs, ap, fs, tk, a1, a2, a3, a4, a5, a6, a7, a8, a9, a10, a11, a12, a13, a14) 9 d a b := by
  refine br_f (by decide) (br_t (by decide) (br_f d0 (br_f d7 (br_f f0 (br_t f7 (br_f (by decide) (br_t (by decide) ?_)))))))
  exact br_t (by decide) (br_f (by decide) (ba_e83 hc b1 b2 H))
theorem ba_g : ∀ k, k < 256 → ¬ nI k - 128 < -128 ∧ nI k - 128 ≤ 127 := by decide +kernel
theorem ba_Q0 {n fm : Nat} {st g : Int32} (hn0 : 0 < n) (r1 : a11 1 = nI n) (r2 : a11 2 = st) (r3 : a11 3 = nI fm) (r4 : a11 4 = 3) (h0 : a12 fm = 0) : ba_Q n fm (ba_v st g) 0 (nI 0) 1 (nI 0) a11 a12 a13 a14 :=
  Or.inl ⟨by omega, ⟨rfl, rfl, rfl, r1, r2, r3, r4, fun j z => absurd z (by omega), h0⟩⟩
/-- the law behind the place -/
theorem ba_law246 {post : Int32 → St0 → Prop} {mc ms kc ks n fm k t : Nat} {z : Int32} {v : Nat → Int32} (hk : k < 256) (hn : n ≤ 8) (hn0 : 0 < n) (hf : fm < 16) (hv : ∀ i, v (i + 1) = v i * 3 + (nI k - 128)) (P : ba_P (nI k - 128) a5 a8 a9 a10) (ht : t ≤ 7 * n) (Q : ba_Q n fm v t ap fs tk a11 a12 a13 a14) (H : post 1 ()) :
    wL_lawOf_246 post mc ms (v 0) (nI n) (nI k - 128) (nI fm) (nI (7 * n)) (nI t) z z kc ks ct 3 1 op fr ft wr gs ap fs tk a1 a2 a3 a4 a5 a6 a7 a8 a9 a10 a11 a12 a13 a14 := by
  refine br_t rfl (ba_run (m := 400) hk hn hf hv P (by omega) ht Q (fun bp bs bt b11 b12 b13 b14 S => br_t ?_ ?_))
  · rw [pk_sub ht, show min 400 (7 * n - t) = 7 * n - t by omega]
  · rcases S with ⟨c, _⟩ | ⟨_, E⟩
    · exact absurd c (by omega)
    · exact ba_law275 hn hn0 hf hv P E H
/-- the law behind the last emit -/
theorem ba_law208 {post : Int32 → St0 → Prop} {mc ms kc ks n fm k f : Nat} {z : Int32} {v : Nat → Int32} (hk : k < 256) (hn : n ≤ 8) (hn0 : 0 < n) (hf : fm < 16) (hF : f < 64) (hz : z = nI (min f (7 * n))) (hv : ∀ i, v (i + 1) = v i * 3 + (nI k - 128))
    (h1 : ∀ i, i < 7 → a1 i = ba_k i) (h2 : ∀ i, i < 7 → a2 i = ba_d i) (h3 : ∀ i, i < 7 → a3 i = ba_f i) (h4 : ∀ i, i < 7 → a4 i = ba_b (nI k - 128) i) (h5 : ∀ t, t < 6 → a5 t = ba_tm t) (Q : ba_Q n fm v 0 ap fs tk a11 a12 a13 a14) (H : post 1 ()) :
    wL_lawOf_208 post mc ms (v 0) (nI n) (nI k - 128) (nI fm) (nI f) (nI (7 * n)) z kc ks (nI 7) bn 0 op fr ft wr gs ap fs tk a1 a2 a3 a4 a5 a6 a7 a8 a9 a10 a11 a12 a13 a14 := by
  subst hz
  unfold wL_lawOf_208
  refine ba_run1 hk hn hf hv (by omega) (Nat.zero_le _) Q h1 h2 h3 h4 h5 (fun bo br bf bw bg bp bs bt b6 b7 b8 b9 b10 b11 b12 b13 b14 P S => br_t (by rw [Nat.sub_zero]) ?_)
  rw [Nat.sub_zero, Nat.zero_add] at S
  refine ba_place hk P S (pk_le (7 * n) f (fun c => ?_) (fun c => And.intro (by decide) ?_))
  · rw [if_neg (by omega)]
    exact ba_law246 hk hn hn0 hf hv P (by omega) S H
  · rw [if_pos (by omega), show min f (7 * n) = f by omega, show nI f - nI f / 7 * 7 = nI (f % 7) from pk_rem (d := 7) (by omega) (by omega) (by omega)]
    rw [show min f (7 * n) = f by omega] at S
    exact ba_law246 hk hn hn0 hf hv P (by omega) S H
end
end
section
/-! BundleAssembler: the law -/
section
theorem ba_h1 : ∀ i, i < 7 → (upd (upd (upd (upd (upd (upd (upd (fun _ => 0) 0 8) 1 4) 2 6) 3 7) 4 6) 5 6) 6 9) i = ba_k i := by
  intro i hi
  rcases (by omega : i = 0 ∨ i = 1 ∨ i = 2 ∨ i = 3 ∨ i = 4 ∨ i = 5 ∨ i = 6) with z | z | z | z | z | z | z <;> subst z <;> rfl
theorem ba_h2 : ∀ i, i < 7 → (upd (upd (upd (upd (upd (upd (upd (fun _ => 0) 0 2) 1 2) 2 2) 3 5) 4 3) 5 1) 6 0) i = ba_d i := by
  intro i hi
  rcases (by omega : i = 0 ∨ i = 1 ∨ i = 2 ∨ i = 3 ∨ i = 4 ∨ i = 5 ∨ i = 6) with z | z | z | z | z | z | z <;> subst z <;> rfl
theorem ba_h3 : ∀ i, i < 7 → (upd (upd (upd (upd (upd (upd (upd (fun _ => 0) 0 3) 1 2) 2 2) 3 3) 4 3) 5 1) 6 1) i = ba_f i := by
  intro i hi
  rcases (by omega : i = 0 ∨ i = 1 ∨ i = 2 ∨ i = 3 ∨ i = 4 ∨ i = 5 ∨ i = 6) with z | z | z | z | z | z | z <;> subst z <;> rfl
theorem ba_h4 (g : Int32) : ∀ i, i < 7 → (upd (upd (upd (upd (upd (upd (upd (fun _ => 0) 0 1) 1 4) 2 g) 3 1) 4 1) 5 (-1)) 6 0) i = ba_b g i := by
  intro i hi
  rcases (by omega : i = 0 ∨ i = 1 ∨ i = 2 ∨ i = 3 ∨ i = 4 ∨ i = 5 ∨ i = 6) with z | z | z | z | z | z | z <;> subst z <;> rfl
theorem ba_init {post : St2 → Prop} (H : ∀ a5 : Nat → Int32, (∀ t, t < 6 → a5 t = ba_tm t) → post (0, 0, 0, 0, 0, 0, 0, 0, 0, 0, 0, (fun _ => 0), (fun _ => 0), (fun _ => 0), (fun _ => 0), a5, (fun _ => 0), (fun _ => 0), (fun _ => 0), (fun _ => 0), (fun _ => 0), (fun _ => 0), (fun _ => 0), (fun _ => 0), (fun _ => 0))) : wpX_init post 14 367 (0, 0, 0, 0, 0, 0, 0, 0, 0, 0, 0) := by
  unfold wpX_init
  dsimp only
  refine ⟨by omega, by omega, by omega, by omega, by omega, by omega, by omega, by omega, by omega, by omega, by omega, by omega, by omega, by omega, by omega, by omega, by omega, by omega, by omega, by omega, by omega, by omega, by omega, by omega, by omega, by omega, by omega, by omega, nm_e (nm_e (nm_e (nm_e (nm_e (nm_e (H _ ?_))))))⟩
  intro i hi
  rcases (by omega : i = 0 ∨ i = 1 ∨ i = 2 ∨ i = 3 ∨ i = 4 ∨ i = 5) with z | z | z | z | z | z <;> subst z <;> rfl
theorem ba_cellAt {post : Int32 → Prop} {L i : Nat} {xs : Nat → Int32} (hL : L ≤ 5) (hi : i < 5) (H : ∀ x, post x) : wpL_cellAt post L xs () (nI i) :=
  pk_le L i (fun _ => H 0) (fun z => And.intro (pk_in i L z) (H _))
theorem ba_lawOf {post : Int32 → St0 → Prop} (p0 p1 p2 p3 p4 : Int32) (H : post 1 ()) : wpL_lawOf post 190 3040 () p0 p1 p2 p3 p4 := by
  obtain ⟨j, hj, ej⟩ := pk_andE p0 (m := 7) 3 (by decide)
  obtain ⟨k, hk, ek⟩ := pk_andE p2 (m := 255) 8 (by decide)
  obtain ⟨fm, hf, ef⟩ := pk_andE p3 (m := 15) 4 (by decide)
  obtain ⟨f, hF, eF⟩ := pk_andE p4 (m := 63) 6 (by decide)
  have en : 1 + (p0 &&& 7) = nI (1 + j) := by
    rw [ej]
    exact nI_add 1 j
  refine nm_r en (nm_r (e' := nI k - 128) (by rw [ek]) (nm_r ef (And.intro (by omega) (And.intro (by omega) ⟨14, 367, by omega, by omega, ?_⟩))))
  refine ba_init (fun a5 h5 => ?_)
  refine ba_set (r := 1) (by omega) ?_
  refine ba_set (r := 2) (by omega) ?_
  refine ba_set (r := 3) (by omega) ?_
  refine ba_set (r := 4) (by omega) ?_
  refine ba_emA (c := 0) (by omega) (by decide) (by decide) (by decide) (by decide) (by decide) (by decide) (by decide) (by decide) (by decide) (by decide) (by decide) (by decide) ?_
  refine br_t rfl ?_
  refine ba_emM (c := 1) (by omega) (by decide) (by decide) (by decide) (by decide) (by decide) (by decide) ?_
  refine br_t rfl ?_
  refine ba_emA (c := 2) (by omega) (by decide) (by decide) (by decide) (by decide) (by decide) (by decide) (by decide) (by decide) (by decide) (by decide) (ba_g k hk).1 (ba_g k hk).2 ?_
  refine br_t rfl ?_
  refine ba_emA (c := 3) (by omega) (by decide) (by decide) (by decide) (by decide) (by decide) (by decide) (by decide) (by decide) (by decide) (by decide) (by decide) (by decide) ?_
  refine br_t rfl ?_
  refine ba_emA (c := 4) (by omega) (by decide) (by decide) (by decide) (by decide) (by decide) (by decide) (by decide) (by decide) (by decide) (by decide) (by decide) (by decide) ?_
  refine br_t rfl ?_
  refine ba_emA (c := 5) (by omega) (by decide) (by decide) (by decide) (by decide) (by decide) (by decide) (by decide) (by decide) (by decide) (by decide) (by decide) (by decide) ?_
  refine br_t rfl ?_
  refine ba_emJ (c := 6) (by omega) (by decide) (by decide) (by decide) (by decide) (by decide) (by decide) ?_
  refine br_t rfl ?_
  refine nm_r eF (nm_r (e' := nI (7 * (1 + j))) (pk_mul 7 (1 + j)) ?_)
  refine pk_le (7 * (1 + j)) f (fun c => ?_) (fun c => ?_)
  · refine ba_law208 (v := ba_v p1 (nI k - 128)) (n := 1 + j) (f := f) hk (by omega) (by omega) hf hF (by rw [show min f (7 * (1 + j)) = 7 * (1 + j) by omega]) (fun i => rfl) ?_ ?_ ?_ ?_ h5 ?_ H
    · exact ba_h1
    · exact ba_h2
    · exact ba_h3
    · exact ba_h4 _
    · exact ba_Q0 (by omega) (by rw [pk_un (by omega), pk_un (by omega), pk_un (by omega), pk_us]) (by rw [pk_un (by omega), pk_un (by omega), pk_us]) (by rw [pk_un (by omega), pk_us]) pk_us rfl
  · refine ba_law208 (v := ba_v p1 (nI k - 128)) (n := 1 + j) (f := f) hk (by omega) (by omega) hf hF (by rw [show min f (7 * (1 + j)) = f by omega]) (fun i => rfl) ?_ ?_ ?_ ?_ h5 ?_ H
    · exact ba_h1
    · exact ba_h2
    · exact ba_h3
    · exact ba_h4 _
    · exact ba_Q0 (by omega) (by rw [pk_un (by omega), pk_un (by omega), pk_un (by omega), pk_us]) (by rw [pk_un (by omega), pk_un (by omega), pk_us]) (by rw [pk_un (by omega), pk_us]) pk_us rfl
theorem i_vc (xs : Nat → Int32) (L : Nat) (hL : L ≤ 5) : wpL_law (fun r => r = 1) L xs :=
  ba_cellAt (i := 0) hL (by omega) (fun p0 => ba_cellAt (i := 1) hL (by omega) (fun p1 => ba_cellAt (i := 2) hL (by omega) (fun p2 => ba_cellAt (i := 3) hL (by omega) (fun p3 => ba_cellAt (i := 4) hL (by omega) (fun p4 => ⟨190, 3040, by omega, by omega, ba_lawOf p0 p1 p2 p3 p4 rfl⟩)))))
end
end
