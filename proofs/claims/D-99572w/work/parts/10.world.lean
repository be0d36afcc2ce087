set_option maxRecDepth 100000
/-! TAG WORLDS. The heap of the whole system under names ('tags') that don't change: tag t's kind is t % 32; its state is four functions
   (ints, longs, references as tags, length + 1 or 0 where there is nothing). -/
abbrev tS : Type := (Nat → Nat → Int32) × (Nat → Nat → Int64) × (Nat → Nat → Option Nat) × (Nat → Nat)
def gI (S : tS) (t k : Nat) : Int32 := S.1 t k
def gL (S : tS) (t k : Nat) : Int64 := S.2.1 t k
def gR (S : tS) (t k : Nat) : Option Nat := S.2.2.1 t k
def gN (S : tS) : Nat → Nat := S.2.2.2
def up2 {α : Type} (f : Nat → Nat → α) (t k : Nat) (x : α) : Nat → Nat → α := fun a b => if a = t then (if b = k then x else f a b) else f a b
def up1 {α : Type} (f : Nat → Nat → α) (t : Nat) (g : Nat → α) : Nat → Nat → α := fun a b => if a = t then g b else f a b
def sI (S : tS) (t k : Nat) (x : Int32) : tS := (up2 S.1 t k x, S.2)
def sL (S : tS) (t k : Nat) (x : Int64) : tS := (S.1, up2 S.2.1 t k x, S.2.2)
def sR (S : tS) (t k : Nat) (x : Option Nat) : tS := (S.1, S.2.1, up2 S.2.2.1 t k x, S.2.2.2)
/-- a whole row at once (System.arraycopy) -/
def wI (S : tS) (t : Nat) (g : Nat → Int32) : tS := (up1 S.1 t g, S.2)
def wL (S : tS) (t : Nat) (g : Nat → Int64) : tS := (S.1, up1 S.2.1 t g, S.2.2)
def wR (S : tS) (t : Nat) (g : Nat → Option Nat) : tS := (S.1, S.2.1, up1 S.2.2.1 t g, S.2.2.2)
/-- a new thing under the tag t: all is 0 -/
def mk (S : tS) (t n : Nat) : tS := (up1 S.1 t (fun _ => 0), up1 S.2.1 t (fun _ => 0), up1 S.2.2.1 t (fun _ => none), fun a => if a = t then n else S.2.2.2 a)
theorem gI_sI (S : tS) (t k a b : Nat) (x : Int32) : gI (sI S t k x) a b = if a = t then (if b = k then x else gI S a b) else gI S a b := rfl
theorem gI_sL (S : tS) (t k a b : Nat) (x : Int64) : gI (sL S t k x) a b = gI S a b := rfl
theorem gI_sR (S : tS) (t k a b : Nat) (x : Option Nat) : gI (sR S t k x) a b = gI S a b := rfl
theorem gL_sI (S : tS) (t k a b : Nat) (x : Int32) : gL (sI S t k x) a b = gL S a b := rfl
theorem gL_sL (S : tS) (t k a b : Nat) (x : Int64) : gL (sL S t k x) a b = if a = t then (if b = k then x else gL S a b) else gL S a b := rfl
theorem gL_sR (S : tS) (t k a b : Nat) (x : Option Nat) : gL (sR S t k x) a b = gL S a b := rfl
theorem gR_sI (S : tS) (t k a b : Nat) (x : Int32) : gR (sI S t k x) a b = gR S a b := rfl
theorem gR_sL (S : tS) (t k a b : Nat) (x : Int64) : gR (sL S t k x) a b = gR S a b := rfl
theorem gR_sR (S : tS) (t k a b : Nat) (x : Option Nat) : gR (sR S t k x) a b = if a = t then (if b = k then x else gR S a b) else gR S a b := rfl
theorem gN_sI (S : tS) (t k : Nat) (x : Int32) : gN (sI S t k x) = gN S := rfl
theorem gN_sL (S : tS) (t k : Nat) (x : Int64) : gN (sL S t k x) = gN S := rfl
theorem gN_sR (S : tS) (t k : Nat) (x : Option Nat) : gN (sR S t k x) = gN S := rfl
theorem gI_wI (S : tS) (t a b : Nat) (g : Nat → Int32) : gI (wI S t g) a b = if a = t then g b else gI S a b := rfl
theorem gI_wL (S : tS) (t a b : Nat) (g : Nat → Int64) : gI (wL S t g) a b = gI S a b := rfl
theorem gI_wR (S : tS) (t a b : Nat) (g : Nat → Option Nat) : gI (wR S t g) a b = gI S a b := rfl
theorem gL_wI (S : tS) (t a b : Nat) (g : Nat → Int32) : gL (wI S t g) a b = gL S a b := rfl
theorem gL_wL (S : tS) (t a b : Nat) (g : Nat → Int64) : gL (wL S t g) a b = if a = t then g b else gL S a b := rfl
theorem gL_wR (S : tS) (t a b : Nat) (g : Nat → Option Nat) : gL (wR S t g) a b = gL S a b := rfl
theorem gR_wI (S : tS) (t a b : Nat) (g : Nat → Int32) : gR (wI S t g) a b = gR S a b := rfl
theorem gR_wL (S : tS) (t a b : Nat) (g : Nat → Int64) : gR (wL S t g) a b = gR S a b := rfl
theorem gR_wR (S : tS) (t a b : Nat) (g : Nat → Option Nat) : gR (wR S t g) a b = if a = t then g b else gR S a b := rfl
theorem gN_wI (S : tS) (t : Nat) (g : Nat → Int32) : gN (wI S t g) = gN S := rfl
theorem gN_wL (S : tS) (t : Nat) (g : Nat → Int64) : gN (wL S t g) = gN S := rfl
theorem gN_wR (S : tS) (t : Nat) (g : Nat → Option Nat) : gN (wR S t g) = gN S := rfl
theorem gI_mk (S : tS) (t n a b : Nat) : gI (mk S t n) a b = if a = t then 0 else gI S a b := rfl
theorem gL_mk (S : tS) (t n a b : Nat) : gL (mk S t n) a b = if a = t then 0 else gL S a b := rfl
theorem gR_mk (S : tS) (t n a b : Nat) : gR (mk S t n) a b = if a = t then none else gR S a b := rfl
theorem gN_mk (S : tS) (t n a : Nat) : gN (mk S t n) a = if a = t then n else gN S a := rfl
abbrev tcl : List vw_C := [(RX6, TX6, 42), (RX0, TX0, 28), (RX1, TX1, 1), (RX2, TX2, 8), (RX3, TX3, 7), (RX4, TX4, 2), (RX5, TX5, 23), (RX8, TX8, 7), (RX13, TX13, 3), (RX11, TX11, 3), (RX12, TX12, 6), (RX7, TX7, 7), (RX14, TX14, 9)]
/-- a field of a kind: 0 int, 1 long, 2 a reference, 3 + o the part o behind, 5000 + t the part t -/
def tcode : Nat → List Nat := fun k => match k with
  | 0 => [5048, 5081, 0, 1, 1, 5112, 5144, 5177, 5210, 5242, 0, 0, 0, 0, 0, 0, 0, 0, 0, 0, 5272, 0, 0, 5308, 0, 5336, 0, 0, 0, 5368, 5400, 5432, 5464, 5496, 5528, 0, 0, 5560, 5592, 5624, 0, 0]
  | 1 => [6077, 6106, 0, 0, 0, 6123, 6156, 0, 1, 1, 6189, 6750, 0, 6766, 7288, 0, 0, 7320, 7352, 7384, 1, 7416, 7448, 0, 0, 0, 7480, 0]
  | 2 => [2]
  | 3 => [2, 2, 2, 2, 2, 0, 0, 0]
  | 4 => [2, 2, 2, 2, 2, 0, 0]
  | 5 => [36, 2]
  | 6 => [0, 0, 0, 0, 0, 0, 0, 0, 2, 2, 2, 2, 173, 205, 237, 269, 301, 333, 365, 397, 429, 461, 500]
  | 7 => [0, 0, 0, 0, 0, 0, 0]
  | 8 => [0, 0, 0]
  | 9 => [2, 0, 0]
  | 10 => [2, 0, 0, 0, 0, 0]
  | 11 => [0, 0, 0, 0, 0, 0, 2]
  | 12 => [2, 0, 0, 0, 0, 0, 0, 0, 0]
  | _ => []
/-- the fixed parts are there -/
def tWf (N : Nat → Nat) : Prop := (N 0 ≠ 0 → N 48 = 3549 ∧ N 81 = 139 ∧ N 112 = 5 ∧ N 144 = 5 ∧ N 177 = 241 ∧ N 210 = 901 ∧ N 242 = 901 ∧ N 272 = 4 ∧ N 308 = 65 ∧ N 336 = 8 ∧ N 368 = 10 ∧ N 400 = 10 ∧ N 432 = 65 ∧ N 464 = 5 ∧ N 496 = 5 ∧ N 528 = 5 ∧ N 560 = 81 ∧ N 592 = 6 ∧ N 624 = 6) ∧ (N 1025 ≠ 0 → N 1077 = 5 ∧ N 1106 = 901 ∧ N 1123 = 1 ∧ N 1156 = 1 ∧ N 1189 = 1 ∧ N 1750 = 4 ∧ N 1766 = 1 ∧ N 2288 = 7 ∧ N 2320 = 9 ∧ N 2352 = 8 ∧ N 2384 = 8 ∧ N 2416 = 7 ∧ N 2448 = 7 ∧ N 2480 = 6) ∧ (∀ h, h % 32 = 5 → N h ≠ 0 → N (h + 33) = 1) ∧ (∀ c, c % 32 = 6 → N c ≠ 0 → N (c + 170) = 7 ∧ N (c + 202) = 7 ∧ N (c + 234) = 7 ∧ N (c + 266) = 7 ∧ N (c + 298) = 7 ∧ N (c + 330) = 7 ∧ N (c + 362) = 7 ∧ N (c + 394) = 7 ∧ N (c + 426) = 11 ∧ N (c + 458) = 11 ∧ N (c + 497) = 9)
theorem wf_X6_at {N : Nat → Nat} (h : tWf N) (h0 : N 0 ≠ 0) : N 48 = 3549 := (h.1 h0).1
theorem wf_X6_names {N : Nat → Nat} (h : tWf N) (h0 : N 0 ≠ 0) : N 81 = 139 := (h.1 h0).2.1
theorem wf_X6_sort {N : Nat → Nat} (h : tWf N) (h0 : N 0 ≠ 0) : N 112 = 5 := (h.1 h0).2.2.1
theorem wf_X6_trayMany {N : Nat → Nat} (h : tWf N) (h0 : N 0 ≠ 0) : N 144 = 5 := (h.1 h0).2.2.2.1
theorem wf_X6_trays {N : Nat → Nat} (h : tWf N) (h0 : N 0 ≠ 0) : N 177 = 241 := (h.1 h0).2.2.2.2.1
theorem wf_X6_tape {N : Nat → Nat} (h : tWf N) (h0 : N 0 ≠ 0) : N 210 = 901 := (h.1 h0).2.2.2.2.2.1
theorem wf_X6_text {N : Nat → Nat} (h : tWf N) (h0 : N 0 ≠ 0) : N 242 = 901 := (h.1 h0).2.2.2.2.2.2.1
theorem wf_X6_opened {N : Nat → Nat} (h : tWf N) (h0 : N 0 ≠ 0) : N 272 = 4 := (h.1 h0).2.2.2.2.2.2.2.1
theorem wf_X6_fitsBy {N : Nat → Nat} (h : tWf N) (h0 : N 0 ≠ 0) : N 308 = 65 := (h.1 h0).2.2.2.2.2.2.2.2.1
theorem wf_X6_shownBy {N : Nat → Nat} (h : tWf N) (h0 : N 0 ≠ 0) : N 336 = 8 := (h.1 h0).2.2.2.2.2.2.2.2.2.1
theorem wf_X6_firstBy {N : Nat → Nat} (h : tWf N) (h0 : N 0 ≠ 0) : N 368 = 10 := (h.1 h0).2.2.2.2.2.2.2.2.2.2.1
theorem wf_X6_guiltyBy {N : Nat → Nat} (h : tWf N) (h0 : N 0 ≠ 0) : N 400 = 10 := (h.1 h0).2.2.2.2.2.2.2.2.2.2.2.1
theorem wf_X6_freeBy {N : Nat → Nat} (h : tWf N) (h0 : N 0 ≠ 0) : N 432 = 65 := (h.1 h0).2.2.2.2.2.2.2.2.2.2.2.2.1
theorem wf_X6_doneAt {N : Nat → Nat} (h : tWf N) (h0 : N 0 ≠ 0) : N 464 = 5 := (h.1 h0).2.2.2.2.2.2.2.2.2.2.2.2.2.1
theorem wf_X6_cameAt {N : Nat → Nat} (h : tWf N) (h0 : N 0 ≠ 0) : N 496 = 5 := (h.1 h0).2.2.2.2.2.2.2.2.2.2.2.2.2.2.1
theorem wf_X6_bestDeed {N : Nat → Nat} (h : tWf N) (h0 : N 0 ≠ 0) : N 528 = 5 := (h.1 h0).2.2.2.2.2.2.2.2.2.2.2.2.2.2.2.1
theorem wf_X6_loops {N : Nat → Nat} (h : tWf N) (h0 : N 0 ≠ 0) : N 560 = 81 := (h.1 h0).2.2.2.2.2.2.2.2.2.2.2.2.2.2.2.2.1
theorem wf_X6_ran {N : Nat → Nat} (h : tWf N) (h0 : N 0 ≠ 0) : N 592 = 6 := (h.1 h0).2.2.2.2.2.2.2.2.2.2.2.2.2.2.2.2.2.1
theorem wf_X6_told1 {N : Nat → Nat} (h : tWf N) (h0 : N 0 ≠ 0) : N 624 = 6 := (h.1 h0).2.2.2.2.2.2.2.2.2.2.2.2.2.2.2.2.2.2
theorem wf_X0_trays {N : Nat → Nat} (h : tWf N) (h0 : N 1025 ≠ 0) : N 1077 = 5 := (h.2.1 h0).1
theorem wf_X0_tape {N : Nat → Nat} (h : tWf N) (h0 : N 1025 ≠ 0) : N 1106 = 901 := (h.2.1 h0).2.1
theorem wf_X0_bad {N : Nat → Nat} (h : tWf N) (h0 : N 1025 ≠ 0) : N 1123 = 1 := (h.2.1 h0).2.2.1
theorem wf_X0_refused {N : Nat → Nat} (h : tWf N) (h0 : N 1025 ≠ 0) : N 1156 = 1 := (h.2.1 h0).2.2.2.1
theorem wf_X0_now {N : Nat → Nat} (h : tWf N) (h0 : N 1025 ≠ 0) : N 1189 = 1 := (h.2.1 h0).2.2.2.2.1
theorem wf_X0_marks {N : Nat → Nat} (h : tWf N) (h0 : N 1025 ≠ 0) : N 1750 = 4 := (h.2.1 h0).2.2.2.2.2.1
theorem wf_X0_aside {N : Nat → Nat} (h : tWf N) (h0 : N 1025 ≠ 0) : N 1766 = 1 := (h.2.1 h0).2.2.2.2.2.2.1
theorem wf_X0_may {N : Nat → Nat} (h : tWf N) (h0 : N 1025 ≠ 0) : N 2288 = 7 := (h.2.1 h0).2.2.2.2.2.2.2.1
theorem wf_X0_firsts {N : Nat → Nat} (h : tWf N) (h0 : N 1025 ≠ 0) : N 2320 = 9 := (h.2.1 h0).2.2.2.2.2.2.2.2.1
theorem wf_X0_shows {N : Nat → Nat} (h : tWf N) (h0 : N 1025 ≠ 0) : N 2352 = 8 := (h.2.1 h0).2.2.2.2.2.2.2.2.2.1
theorem wf_X0_guilts {N : Nat → Nat} (h : tWf N) (h0 : N 1025 ≠ 0) : N 2384 = 8 := (h.2.1 h0).2.2.2.2.2.2.2.2.2.2.1
theorem wf_X0_order {N : Nat → Nat} (h : tWf N) (h0 : N 1025 ≠ 0) : N 2416 = 7 := (h.2.1 h0).2.2.2.2.2.2.2.2.2.2.2.1
theorem wf_X0_bestOrder {N : Nat → Nat} (h : tWf N) (h0 : N 1025 ≠ 0) : N 2448 = 7 := (h.2.1 h0).2.2.2.2.2.2.2.2.2.2.2.2.1
theorem wf_X0_last {N : Nat → Nat} (h : tWf N) (h0 : N 1025 ≠ 0) : N 2480 = 6 := (h.2.1 h0).2.2.2.2.2.2.2.2.2.2.2.2.2
theorem wf_X5_sense {N : Nat → Nat} {c : Nat} (h : tWf N) (hk : c % 32 = 6) (h0 : N c ≠ 0) : N (c + 170) = 7 := (h.2.2.2 c hk h0).1
theorem wf_X5_fed {N : Nat → Nat} {c : Nat} (h : tWf N) (hk : c % 32 = 6) (h0 : N c ≠ 0) : N (c + 202) = 7 := (h.2.2.2 c hk h0).2.1
theorem wf_X5_scents {N : Nat → Nat} {c : Nat} (h : tWf N) (hk : c % 32 = 6) (h0 : N c ≠ 0) : N (c + 234) = 7 := (h.2.2.2 c hk h0).2.2.1
theorem wf_X5_state {N : Nat → Nat} {c : Nat} (h : tWf N) (hk : c % 32 = 6) (h0 : N c ≠ 0) : N (c + 266) = 7 := (h.2.2.2 c hk h0).2.2.2.1
theorem wf_X5_guilty {N : Nat → Nat} {c : Nat} (h : tWf N) (hk : c % 32 = 6) (h0 : N c ≠ 0) : N (c + 298) = 7 := (h.2.2.2 c hk h0).2.2.2.2.1
theorem wf_X5_sat {N : Nat → Nat} {c : Nat} (h : tWf N) (hk : c % 32 = 6) (h0 : N c ≠ 0) : N (c + 330) = 7 := (h.2.2.2 c hk h0).2.2.2.2.2.1
theorem wf_X5_slip {N : Nat → Nat} {c : Nat} (h : tWf N) (hk : c % 32 = 6) (h0 : N c ≠ 0) : N (c + 362) = 7 := (h.2.2.2 c hk h0).2.2.2.2.2.2.1
theorem wf_X5_votes {N : Nat → Nat} {c : Nat} (h : tWf N) (hk : c % 32 = 6) (h0 : N c ≠ 0) : N (c + 394) = 7 := (h.2.2.2 c hk h0).2.2.2.2.2.2.2.1
theorem wf_X5_about {N : Nat → Nat} {c : Nat} (h : tWf N) (hk : c % 32 = 6) (h0 : N c ≠ 0) : N (c + 426) = 11 := (h.2.2.2 c hk h0).2.2.2.2.2.2.2.2.1
theorem wf_X5_says {N : Nat → Nat} {c : Nat} (h : tWf N) (hk : c % 32 = 6) (h0 : N c ≠ 0) : N (c + 458) = 11 := (h.2.2.2 c hk h0).2.2.2.2.2.2.2.2.2.1
theorem wf_X5_rule {N : Nat → Nat} {c : Nat} (h : tWf N) (hk : c % 32 = 6) (h0 : N c ≠ 0) : N (c + 497) = 9 := (h.2.2.2 c hk h0).2.2.2.2.2.2.2.2.2.2
theorem wf_X4_court {N : Nat → Nat} {c : Nat} (h : tWf N) (hk : c % 32 = 5) (h0 : N c ≠ 0) : N (c + 33) = 1 := h.2.2.1 c hk h0
theorem ne0 {a n : Nat} (h : a = n + 1) : a ≠ 0 := by omega
theorem ln_48 {N : Nat → Nat} (h : tWf N) (h0 : N 0 ≠ 0) : N 48 = 3549 := wf_X6_at h h0
theorem ln_81 {N : Nat → Nat} (h : tWf N) (h0 : N 0 ≠ 0) : N 81 = 139 := wf_X6_names h h0
theorem ln_112 {N : Nat → Nat} (h : tWf N) (h0 : N 0 ≠ 0) : N 112 = 5 := wf_X6_sort h h0
theorem ln_144 {N : Nat → Nat} (h : tWf N) (h0 : N 0 ≠ 0) : N 144 = 5 := wf_X6_trayMany h h0
theorem ln_177 {N : Nat → Nat} (h : tWf N) (h0 : N 0 ≠ 0) : N 177 = 241 := wf_X6_trays h h0
theorem ln_210 {N : Nat → Nat} (h : tWf N) (h0 : N 0 ≠ 0) : N 210 = 901 := wf_X6_tape h h0
theorem ln_242 {N : Nat → Nat} (h : tWf N) (h0 : N 0 ≠ 0) : N 242 = 901 := wf_X6_text h h0
theorem ln_272 {N : Nat → Nat} (h : tWf N) (h0 : N 0 ≠ 0) : N 272 = 4 := wf_X6_opened h h0
theorem ln_308 {N : Nat → Nat} (h : tWf N) (h0 : N 0 ≠ 0) : N 308 = 65 := wf_X6_fitsBy h h0
theorem ln_336 {N : Nat → Nat} (h : tWf N) (h0 : N 0 ≠ 0) : N 336 = 8 := wf_X6_shownBy h h0
theorem ln_368 {N : Nat → Nat} (h : tWf N) (h0 : N 0 ≠ 0) : N 368 = 10 := wf_X6_firstBy h h0
theorem ln_400 {N : Nat → Nat} (h : tWf N) (h0 : N 0 ≠ 0) : N 400 = 10 := wf_X6_guiltyBy h h0
theorem ln_432 {N : Nat → Nat} (h : tWf N) (h0 : N 0 ≠ 0) : N 432 = 65 := wf_X6_freeBy h h0
theorem ln_464 {N : Nat → Nat} (h : tWf N) (h0 : N 0 ≠ 0) : N 464 = 5 := wf_X6_doneAt h h0
theorem ln_496 {N : Nat → Nat} (h : tWf N) (h0 : N 0 ≠ 0) : N 496 = 5 := wf_X6_cameAt h h0
theorem ln_528 {N : Nat → Nat} (h : tWf N) (h0 : N 0 ≠ 0) : N 528 = 5 := wf_X6_bestDeed h h0
theorem ln_560 {N : Nat → Nat} (h : tWf N) (h0 : N 0 ≠ 0) : N 560 = 81 := wf_X6_loops h h0
theorem ln_592 {N : Nat → Nat} (h : tWf N) (h0 : N 0 ≠ 0) : N 592 = 6 := wf_X6_ran h h0
theorem ln_624 {N : Nat → Nat} (h : tWf N) (h0 : N 0 ≠ 0) : N 624 = 6 := wf_X6_told1 h h0
theorem ln_1077 {N : Nat → Nat} (h : tWf N) (h0 : N 1025 ≠ 0) : N 1077 = 5 := wf_X0_trays h h0
theorem ln_1106 {N : Nat → Nat} (h : tWf N) (h0 : N 1025 ≠ 0) : N 1106 = 901 := wf_X0_tape h h0
theorem ln_1123 {N : Nat → Nat} (h : tWf N) (h0 : N 1025 ≠ 0) : N 1123 = 1 := wf_X0_bad h h0
theorem ln_1156 {N : Nat → Nat} (h : tWf N) (h0 : N 1025 ≠ 0) : N 1156 = 1 := wf_X0_refused h h0
theorem ln_1189 {N : Nat → Nat} (h : tWf N) (h0 : N 1025 ≠ 0) : N 1189 = 1 := wf_X0_now h h0
theorem ln_1750 {N : Nat → Nat} (h : tWf N) (h0 : N 1025 ≠ 0) : N 1750 = 4 := wf_X0_marks h h0
theorem ln_1766 {N : Nat → Nat} (h : tWf N) (h0 : N 1025 ≠ 0) : N 1766 = 1 := wf_X0_aside h h0
theorem ln_2288 {N : Nat → Nat} (h : tWf N) (h0 : N 1025 ≠ 0) : N 2288 = 7 := wf_X0_may h h0
theorem ln_2320 {N : Nat → Nat} (h : tWf N) (h0 : N 1025 ≠ 0) : N 2320 = 9 := wf_X0_firsts h h0
theorem ln_2352 {N : Nat → Nat} (h : tWf N) (h0 : N 1025 ≠ 0) : N 2352 = 8 := wf_X0_shows h h0
theorem ln_2384 {N : Nat → Nat} (h : tWf N) (h0 : N 1025 ≠ 0) : N 2384 = 8 := wf_X0_guilts h h0
theorem ln_2416 {N : Nat → Nat} (h : tWf N) (h0 : N 1025 ≠ 0) : N 2416 = 7 := wf_X0_order h h0
theorem ln_2448 {N : Nat → Nat} (h : tWf N) (h0 : N 1025 ≠ 0) : N 2448 = 7 := wf_X0_bestOrder h h0
theorem ln_2480 {N : Nat → Nat} (h : tWf N) (h0 : N 1025 ≠ 0) : N 2480 = 6 := wf_X0_last h h0
theorem ln_1222 {N : Nat → Nat} (h : tWf N) (h0 : N 1025 ≠ 0) : N 1222 = 1 := wf_X4_court (c := 1189) h rfl (ne0 (ln_1189 h h0))
theorem ln_1392 {N : Nat → Nat} (h : tWf N) (h0 : N 1025 ≠ 0) : N 1392 = 7 := wf_X5_sense (c := 1222) h rfl (ne0 (ln_1222 h h0))
theorem ln_1424 {N : Nat → Nat} (h : tWf N) (h0 : N 1025 ≠ 0) : N 1424 = 7 := wf_X5_fed (c := 1222) h rfl (ne0 (ln_1222 h h0))
theorem ln_1456 {N : Nat → Nat} (h : tWf N) (h0 : N 1025 ≠ 0) : N 1456 = 7 := wf_X5_scents (c := 1222) h rfl (ne0 (ln_1222 h h0))
theorem ln_1488 {N : Nat → Nat} (h : tWf N) (h0 : N 1025 ≠ 0) : N 1488 = 7 := wf_X5_state (c := 1222) h rfl (ne0 (ln_1222 h h0))
theorem ln_1520 {N : Nat → Nat} (h : tWf N) (h0 : N 1025 ≠ 0) : N 1520 = 7 := wf_X5_guilty (c := 1222) h rfl (ne0 (ln_1222 h h0))
theorem ln_1552 {N : Nat → Nat} (h : tWf N) (h0 : N 1025 ≠ 0) : N 1552 = 7 := wf_X5_sat (c := 1222) h rfl (ne0 (ln_1222 h h0))
theorem ln_1584 {N : Nat → Nat} (h : tWf N) (h0 : N 1025 ≠ 0) : N 1584 = 7 := wf_X5_slip (c := 1222) h rfl (ne0 (ln_1222 h h0))
theorem ln_1616 {N : Nat → Nat} (h : tWf N) (h0 : N 1025 ≠ 0) : N 1616 = 7 := wf_X5_votes (c := 1222) h rfl (ne0 (ln_1222 h h0))
theorem ln_1648 {N : Nat → Nat} (h : tWf N) (h0 : N 1025 ≠ 0) : N 1648 = 11 := wf_X5_about (c := 1222) h rfl (ne0 (ln_1222 h h0))
theorem ln_1680 {N : Nat → Nat} (h : tWf N) (h0 : N 1025 ≠ 0) : N 1680 = 11 := wf_X5_says (c := 1222) h rfl (ne0 (ln_1222 h h0))
theorem ln_1719 {N : Nat → Nat} (h : tWf N) (h0 : N 1025 ≠ 0) : N 1719 = 9 := wf_X5_rule (c := 1222) h rfl (ne0 (ln_1222 h h0))
theorem ln_1936 {N : Nat → Nat} (h : tWf N) (h0 : N 1025 ≠ 0) : N 1936 = 7 := wf_X5_sense (c := 1766) h rfl (ne0 (ln_1766 h h0))
theorem ln_1968 {N : Nat → Nat} (h : tWf N) (h0 : N 1025 ≠ 0) : N 1968 = 7 := wf_X5_fed (c := 1766) h rfl (ne0 (ln_1766 h h0))
theorem ln_2000 {N : Nat → Nat} (h : tWf N) (h0 : N 1025 ≠ 0) : N 2000 = 7 := wf_X5_scents (c := 1766) h rfl (ne0 (ln_1766 h h0))
theorem ln_2032 {N : Nat → Nat} (h : tWf N) (h0 : N 1025 ≠ 0) : N 2032 = 7 := wf_X5_state (c := 1766) h rfl (ne0 (ln_1766 h h0))
theorem ln_2064 {N : Nat → Nat} (h : tWf N) (h0 : N 1025 ≠ 0) : N 2064 = 7 := wf_X5_guilty (c := 1766) h rfl (ne0 (ln_1766 h h0))
theorem ln_2096 {N : Nat → Nat} (h : tWf N) (h0 : N 1025 ≠ 0) : N 2096 = 7 := wf_X5_sat (c := 1766) h rfl (ne0 (ln_1766 h h0))
theorem ln_2128 {N : Nat → Nat} (h : tWf N) (h0 : N 1025 ≠ 0) : N 2128 = 7 := wf_X5_slip (c := 1766) h rfl (ne0 (ln_1766 h h0))
theorem ln_2160 {N : Nat → Nat} (h : tWf N) (h0 : N 1025 ≠ 0) : N 2160 = 7 := wf_X5_votes (c := 1766) h rfl (ne0 (ln_1766 h h0))
theorem ln_2192 {N : Nat → Nat} (h : tWf N) (h0 : N 1025 ≠ 0) : N 2192 = 11 := wf_X5_about (c := 1766) h rfl (ne0 (ln_1766 h h0))
theorem ln_2224 {N : Nat → Nat} (h : tWf N) (h0 : N 1025 ≠ 0) : N 2224 = 11 := wf_X5_says (c := 1766) h rfl (ne0 (ln_1766 h h0))
theorem ln_2263 {N : Nat → Nat} (h : tWf N) (h0 : N 1025 ≠ 0) : N 2263 = 9 := wf_X5_rule (c := 1766) h rfl (ne0 (ln_1766 h h0))
theorem lnc_170 {N : Nat → Nat} {c : Nat} (h : tWf N) (hk : c % 32 = 6) (h0 : N c ≠ 0) : N (c + 170) = 7 := wf_X5_sense h hk h0
theorem lnc_202 {N : Nat → Nat} {c : Nat} (h : tWf N) (hk : c % 32 = 6) (h0 : N c ≠ 0) : N (c + 202) = 7 := wf_X5_fed h hk h0
theorem lnc_234 {N : Nat → Nat} {c : Nat} (h : tWf N) (hk : c % 32 = 6) (h0 : N c ≠ 0) : N (c + 234) = 7 := wf_X5_scents h hk h0
theorem lnc_266 {N : Nat → Nat} {c : Nat} (h : tWf N) (hk : c % 32 = 6) (h0 : N c ≠ 0) : N (c + 266) = 7 := wf_X5_state h hk h0
theorem lnc_298 {N : Nat → Nat} {c : Nat} (h : tWf N) (hk : c % 32 = 6) (h0 : N c ≠ 0) : N (c + 298) = 7 := wf_X5_guilty h hk h0
theorem lnc_330 {N : Nat → Nat} {c : Nat} (h : tWf N) (hk : c % 32 = 6) (h0 : N c ≠ 0) : N (c + 330) = 7 := wf_X5_sat h hk h0
theorem lnc_362 {N : Nat → Nat} {c : Nat} (h : tWf N) (hk : c % 32 = 6) (h0 : N c ≠ 0) : N (c + 362) = 7 := wf_X5_slip h hk h0
theorem lnc_394 {N : Nat → Nat} {c : Nat} (h : tWf N) (hk : c % 32 = 6) (h0 : N c ≠ 0) : N (c + 394) = 7 := wf_X5_votes h hk h0
theorem lnc_426 {N : Nat → Nat} {c : Nat} (h : tWf N) (hk : c % 32 = 6) (h0 : N c ≠ 0) : N (c + 426) = 11 := wf_X5_about h hk h0
theorem lnc_458 {N : Nat → Nat} {c : Nat} (h : tWf N) (hk : c % 32 = 6) (h0 : N c ≠ 0) : N (c + 458) = 11 := wf_X5_says h hk h0
theorem lnc_497 {N : Nat → Nat} {c : Nat} (h : tWf N) (hk : c % 32 = 6) (h0 : N c ≠ 0) : N (c + 497) = 9 := wf_X5_rule h hk h0
theorem lnc_33 {N : Nat → Nat} {c : Nat} (h : tWf N) (hk : c % 32 = 5) (h0 : N c ≠ 0) : N (c + 33) = 1 := wf_X4_court h hk h0
def tncs : List (String × String) := [("CatWitness$Refused", "java/lang/NegativeArraySizeException"), ("CatWitness$Refused", "java/lang/ArrayIndexOutOfBoundsException"), ("CatWitness$Refused", "java/lang/IndexOutOfBoundsException"), ("[S", "[B"), ("[I", "[B"), ("[J", "[B"), ("[B", "[S"), ("[I", "[S"), ("[J", "[S"), ("[B", "[I"), ("[S", "[I"), ("[J", "[I")]
def nST : Nat := 30
def strT : List (String × Nat × String) := [("CatWitnessModel", 184, " smell sign rule person reader word means nothing guilty clean fed warm smells slips votes sit term feed rub wash night any when loop end stop shows held free "), ("CatWitness$Reader", 83, "nothing"), ("CatWitness$Reader", 85, "guilty"), ("CatWitness$Reader", 87, "clean"), ("CatWitness$Reader", 92, "sit"), ("CatWitness$Reader", 94, "term"), ("CatWitness$Reader", 96, "feed"), ("CatWitness$Reader", 98, "rub"), ("CatWitness$Reader", 100, "wash"), ("CatWitness$Reader", 102, "night"), ("CatWitness$Reader", 104, "any"), ("CatWitness$Reader", 106, "stop"), ("CatWitness$Reader", 108, "shows"), ("CatWitness$Reader", 110, "held"), ("CatWitness$Reader", 112, "free"), ("CatWitness$Reader", 114, "warm"), ("CatWitness$Reader", 116, "smell"), ("CatWitness$Reader", 118, "sign"), ("CatWitness$Reader", 120, "means"), ("CatWitness$Reader", 122, "rule"), ("CatWitness$Reader", 124, "fed"), ("CatWitness$Reader", 126, "smells"), ("CatWitness$Reader", 128, "person"), ("CatWitness$Reader", 130, "reader"), ("CatWitness$Reader", 132, "slips"), ("CatWitness$Reader", 134, "votes"), ("CatWitness$Reader", 136, "word"), ("CatWitness$Reader", 137, "when"), ("CatWitness$Reader", 139, "loop"), ("CatWitness$Reader", 141, "end")]
def lenT : List Nat := [159, 7, 6, 5, 3, 4, 4, 3, 4, 5, 3, 4, 5, 4, 4, 4, 5, 4, 5, 4, 3, 6, 6, 6, 5, 5, 4, 4, 4, 3]
def bytT : List (List Int32) := [[32, 115, 109, 101, 108, 108, 32, 115, 105, 103, 110, 32, 114, 117, 108, 101, 32, 112, 101, 114, 115, 111, 110, 32, 114, 101, 97, 100, 101, 114, 32, 119, 111, 114, 100, 32, 109, 101, 97, 110, 115, 32, 110, 111, 116, 104, 105, 110, 103, 32, 103, 117, 105, 108, 116, 121, 32, 99, 108, 101, 97, 110, 32, 102, 101, 100, 32, 119, 97, 114, 109, 32, 115, 109, 101, 108, 108, 115, 32, 115, 108, 105, 112, 115, 32, 118, 111, 116, 101, 115, 32, 115, 105, 116, 32, 116, 101, 114, 109, 32, 102, 101, 101, 100, 32, 114, 117, 98, 32, 119, 97, 115, 104, 32, 110, 105, 103, 104, 116, 32, 97, 110, 121, 32, 119, 104, 101, 110, 32, 108, 111, 111, 112, 32, 101, 110, 100, 32, 115, 116, 111, 112, 32, 115, 104, 111, 119, 115, 32, 104, 101, 108, 100, 32, 102, 114, 101, 101, 32], [110, 111, 116, 104, 105, 110, 103], [103, 117, 105, 108, 116, 121], [99, 108, 101, 97, 110], [115, 105, 116], [116, 101, 114, 109], [102, 101, 101, 100], [114, 117, 98], [119, 97, 115, 104], [110, 105, 103, 104, 116], [97, 110, 121], [115, 116, 111, 112], [115, 104, 111, 119, 115], [104, 101, 108, 100], [102, 114, 101, 101], [119, 97, 114, 109], [115, 109, 101, 108, 108], [115, 105, 103, 110], [109, 101, 97, 110, 115], [114, 117, 108, 101], [102, 101, 100], [115, 109, 101, 108, 108, 115], [112, 101, 114, 115, 111, 110], [114, 101, 97, 100, 101, 114], [115, 108, 105, 112, 115], [118, 111, 116, 101, 115], [119, 111, 114, 100], [119, 104, 101, 110], [108, 111, 111, 112], [101, 110, 100]]
abbrev tG : Type := va_G × (Nat → ClassId) × (Nat → Nat) × (Nat → Nat)
abbrev ttys (dA : Nat → ClassId) : List (ClassId × FieldType) := [(dA 16, .int), (dA 17, .long), (dA 18, .byte), (dA 19, .short), (dA 20, .boolean), (dA 21, .object "CatWitness$Tray"), (dA 22, .object "CatWitness$House"), (dA 23, .object "CatWitness$Rule"), (dA 24, .object "CatWitness$Step")]
def fval (ad : Nat → Nat) (S : tS) (t j c : Nat) : Value := if c = 0 then .int (gI S t j) else if c = 1 then .long (gL S t j) else if c = 2 then va_rf ((gR S t j).map ad) else if c < 5000 then .ref (ad (t + (c - 3))) else .ref (ad (c - 5000))
def tfs (ad : Nat → Nat) (S : tS) (t k : Nat) : List Value := (List.range (tcode k).length).map (fun j => fval ad S t j ((tcode k).getD j 0))
def tEn (dA : Nat → ClassId) (ad : Nat → Nat) (S : tS) (t : Nat) : va_E := if t % 32 < 16 then .inr (t % 32, tfs ad S t (t % 32)) else .inl (dA (t % 32), gN S t - 1, if t % 32 = 17 then .inr (.inl (gL S t)) else if t % 32 < 21 then .inl (gI S t) else .inr (.inr (.inr (.inr (fun j => (gR S t j).map ad)))))
def tcell (dA : Nat → ClassId) (ad : Nat → Nat) (S : tS) (t : Nat) : Nat × va_E := (ad t, tEn dA ad S t)
def tH (G : tG) (ad : Nat → Nat) (A : Nat → Prop) (S : tS) (H : Heap) : Prop := tWf (gN S) ∧ ∃ Ls : List Nat, Ls.Nodup ∧ (∀ t, t ∈ Ls ↔ gN S t ≠ 0) ∧ va_P G.1 tcl (Ls.map (tcell G.2.1 ad S)) H ∧ va_D A (Ls.map (tcell G.2.1 ad S))
/-- the tables' words that ride in no list: nest mates' links, castable, declares -/
def tnest (w : Cond) : Bool := match w with
  | .fieldLinkNest .. => true
  | .methodLinkNest .. => true
  | .castable .. => true
  | .declares .. => true
  | .arrayOver (.object _) => true
  | _ => false
def tNW (U : State) : Prop := ∀ w ∈ lw_tbl, tnest w = true → va_Nw w U
/-- classes that are not each other's kind -/
def tNC (U : State) : Prop := ∀ q ∈ tncs, va_Nc q.1 q.2 U
/-- the String constants, by their places in strT -/
def tSR (G : tG) (U : State) : Prop := ∀ (i : Nat) (o : String) (x : Nat) (tx : String), strT[i]? = some (o, x, tx) → vk_R o x tx (G.2.2.1 i) U
def tK (G : tG) (U : State) : Prop := va_K G.1 tcl (ttys G.2.1) U ∧ tNW U ∧ tNC U ∧ tSR G U
/-- what nobody writes: the constants' cells, some statics -/
def tZ (G : tG) (A : Nat → Prop) (U : State) (H : Heap) : Prop := vk_S nST lenT bytT G.2.2.1 G.2.2.2 A U H ∧ vx_Zq Bundle.tN "UNASSIGNED_STACK" Bundle.steD A U H ∧ vx_Zq Bundle.tN "SUPPRESSED_SENTINEL" Bundle.listD A U H ∧ va_Z "java/lang/String" "COMPACT_STRINGS" "Z" (.int 1) A U H ∧ va_Zq "jdk/internal/util/Preconditions" "SIOOBE_FORMATTER" "Ljava/util/function/BiFunction;" A U H
theorem tZ.moved {G : tG} {A : Nat → Prop} {u U : State} {H : Heap} (hvm : u.vm.Alike U.vm) (h : tZ G A u H) : tZ G A U H := ⟨vk_S.moved hvm h.1, vx_Zq.moved hvm h.2.1, vx_Zq.moved hvm h.2.2.1, va_Z.moved hvm h.2.2.2.1, va_Zq.moved hvm h.2.2.2.2⟩
theorem tZ.kept {G : tG} {A : Nat → Prop} {U : State} {H H1 : Heap} (h : tZ G A U H) (hq : ∀ a : Nat, a < H.size → ¬ A a → H1[a]? = H[a]?) : tZ G A U H1 := ⟨vk_S.kept h.1 hq, vx_Zq.kept h.2.1 hq, vx_Zq.kept h.2.2.1 hq, va_Z.kept h.2.2.2.1 hq, va_Zq.kept h.2.2.2.2 hq⟩
theorem tNW_warm {s U : State} (hW : s.WarmedH U.vm) (h : tNW s) : tNW U := by
  intro w hw ht
  have h1 := h w hw ht
  cases w <;> first | exact va_Nw.warmF hW h1 | exact va_Nw.warmM hW h1 | exact va_Nw.warmC hW h1 | exact va_Nw.warmD hW h1 | (simp [tnest] at ht; done) | (rename_i ty; cases ty <;> first | exact va_AO.moved hW.alike h1 | (simp [tnest] at ht; done))
theorem tK_warm {G : tG} {s U : State} (hW : s.WarmedH U.vm) (h : tK G s) : tK G U := ⟨va_K.moved hW.alike h.1, tNW_warm hW h.2.1, fun q hq => (h.2.2.1 q hq).moved hW.alike, fun i o x tx hi => (h.2.2.2 i o x tx hi).warm hW⟩
theorem tNW_same {u U : State} (hv : u.vm = U.vm) (h : tNW u) : tNW U := by
  intro w hw ht
  have h1 := h w hw ht
  cases w <;> first | exact va_Nw.same rfl hv h1 | (simp [tnest] at ht; done) | (rename_i ty; cases ty <;> first | exact va_AO.moved (by rw [hv]; exact Vm.Alike.refl _) h1 | (simp [tnest] at ht; done))
theorem tmap_set {α β : Type} (f g : α → β) (L : List α) (i : Nat) (t : α) (hn : L.Nodup) (hi : L[i]? = some t) (hg : ∀ x, x ≠ t → g x = f x) : (L.map f).set i (g t) = L.map g := by
  apply List.ext_getElem?
  intro j
  by_cases hj : j = i
  · subst hj
    have hlt : j < L.length := (List.getElem?_eq_some_iff.mp hi).1
    rw [List.getElem?_set_self (by simpa using hlt), List.getElem?_map, hi]; rfl
  · rw [List.getElem?_set_ne (Ne.symm hj), List.getElem?_map, List.getElem?_map]
    cases h : L[j]? with
    | none => rfl
    | some x =>
      have hx : x ≠ t := by
        intro e
        subst e
        have h1 := (List.getElem?_eq_some_iff.mp h).1
        have h2 := (List.getElem?_eq_some_iff.mp hi).1
        exact hj ((List.getElem?_inj h1 hn).mp (h.trans hi.symm))
      simp [hg x hx]
theorem tH_idx {G : tG} {ad : Nat → Nat} {A : Nat → Prop} {S : tS} {Ls : List Nat} {t : Nat} (h2 : ∀ t, t ∈ Ls ↔ gN S t ≠ 0) (ht : gN S t ≠ 0) : ∃ i : Nat, Ls[i]? = some t ∧ (Ls.map (tcell G.2.1 ad S))[i]? = some (tcell G.2.1 ad S t) := by
  obtain ⟨i, hi⟩ := List.getElem?_of_mem ((h2 t).mpr ht)
  exact ⟨i, hi, by rw [List.getElem?_map, hi]; rfl⟩
/-- one cell of the world, alone -/
theorem tH_one {G : tG} {ad : Nat → Nat} {A : Nat → Prop} {S : tS} {H : Heap} {t : Nat} (h : tH G ad A S H) (ht : gN S t ≠ 0) : va_P G.1 tcl [(ad t, tEn G.2.1 ad S t)] H := by
  obtain ⟨-, Ls, h1, h2, h3, h4⟩ := h
  obtain ⟨i, hi, hc⟩ := tH_idx (G := G) (ad := ad) (A := A) h2 ht
  intro k q hk
  have hz : k < 1 := (List.getElem?_eq_some_iff.mp hk).1
  rw [show k = 0 by omega] at hk
  cases hk
  exact h3 i _ hc
theorem tH_in {G : tG} {ad : Nat → Nat} {A : Nat → Prop} {S : tS} {H : Heap} {t : Nat} (h : tH G ad A S H) (ht : gN S t ≠ 0) : A (ad t) := by
  obtain ⟨-, Ls, h1, h2, h3, h4⟩ := h
  obtain ⟨i, hi, hc⟩ := tH_idx (G := G) (ad := ad) (A := A) h2 ht
  exact h4.2 i _ hc
theorem tEn_o (dA : Nat → ClassId) (ad : Nat → Nat) (S : tS) {t k : Nat} (hk : t % 32 = k) (h : k < 16) : tEn dA ad S t = .inr (k, tfs ad S t k) := by
  subst hk
  unfold tEn
  rw [if_pos h]
theorem tEn_i (dA : Nat → ClassId) (ad : Nat → Nat) (S : tS) {t k n : Nat} (hk : t % 32 = k) (h : k = 16 ∨ k = 18 ∨ k = 19 ∨ k = 20) (hn : gN S t = n + 1) : tEn dA ad S t = .inl (dA k, n, .inl (gI S t)) := by
  subst hk
  unfold tEn
  rw [if_neg (by omega), if_neg (by omega), if_pos (by omega), hn]
  rfl
theorem tEn_l (dA : Nat → ClassId) (ad : Nat → Nat) (S : tS) {t n : Nat} (hk : t % 32 = 17) (hn : gN S t = n + 1) : tEn dA ad S t = .inl (dA 17, n, .inr (.inl (gL S t))) := by
  unfold tEn
  rw [hk, if_neg (by omega), if_pos rfl, hn]
  rfl
theorem tEn_q (dA : Nat → ClassId) (ad : Nat → Nat) (S : tS) {t k n : Nat} (hk : t % 32 = k) (h : 21 ≤ k) (hn : gN S t = n + 1) : tEn dA ad S t = .inl (dA k, n, .inr (.inr (.inr (.inr (fun j => (gR S t j).map ad))))) := by
  subst hk
  unfold tEn
  rw [if_neg (by omega), if_neg (by omega), if_neg (by omega), hn]
  rfl
theorem fval_congr {ad : Nat → Nat} {S S' : tS} {t j c : Nat} (h1 : gI S' t j = gI S t j) (h2 : gL S' t j = gL S t j) (h3 : gR S' t j = gR S t j) : fval ad S' t j c = fval ad S t j c := by
  unfold fval
  rw [h1, h2, h3]
theorem tEn_congr {dA : Nat → ClassId} {ad : Nat → Nat} {S S' : tS} {t : Nat} (h1 : ∀ j, gI S' t j = gI S t j) (h2 : ∀ j, gL S' t j = gL S t j) (h3 : ∀ j, gR S' t j = gR S t j) (h4 : gN S' t = gN S t) : tEn dA ad S' t = tEn dA ad S t := by
  unfold tEn
  have e1 : tfs ad S' t (t % 32) = tfs ad S t (t % 32) := by
    unfold tfs
    exact List.map_congr_left (fun j _ => fval_congr (h1 j) (h2 j) (h3 j))
  have e2 : gL S' t = gL S t := funext h2
  have e3 : gI S' t = gI S t := funext h1
  rw [e1, e2, e3, h4]
  simp only [h3]
/-- a field's new value, in the list of all -/
theorem tfs_set {ad : Nat → Nat} {S S' : tS} {t k j : Nat} {v : Value} (hj : j < (tcode k).length) (hv : fval ad S' t j ((tcode k).getD j 0) = v) (ho : ∀ i, i ≠ j → fval ad S' t i ((tcode k).getD i 0) = fval ad S t i ((tcode k).getD i 0)) : (tfs ad S t k).set j v = tfs ad S' t k := by
  apply List.ext_getElem?
  intro i
  unfold tfs
  by_cases hi : i = j
  · subst hi
    rw [List.getElem?_set_self (by simpa using hj), List.getElem?_map, List.getElem?_range hj, ← hv]; rfl
  · rw [List.getElem?_set_ne (Ne.symm hi), List.getElem?_map, List.getElem?_map]
    by_cases hl : i < (tcode k).length
    · rw [List.getElem?_range hl]; simp only [Option.map_some]; rw [ho i hi]
    · rw [List.getElem?_eq_none (by simpa using hl)]; rfl
theorem tfs_get {ad : Nat → Nat} {S : tS} {t k j : Nat} (hj : j < (tcode k).length) : (tfs ad S t k)[j]? = some (fval ad S t j ((tcode k).getD j 0)) := by
  unfold tfs
  rw [List.getElem?_map, List.getElem?_range hj]; rfl
theorem tfs_len {ad : Nat → Nat} {S : tS} {t k : Nat} : (tfs ad S t k).length = (tcode k).length := by
  simp [tfs]
