/-! the rows of the tables (printed by gen/gen_tab.py) -/
set_option maxRecDepth 100000
theorem tb0 (σ : Nat → Value) : aTab σ 0 = aLk T0 σ := rfl
theorem ml0 : mL 0 = 5 := rfl
theorem tb1 (σ : Nat → Value) : aTab σ 1 = aLk T1 σ := rfl
theorem ml1 : mL 1 = 2 := rfl
theorem tb2 (σ : Nat → Value) : aTab σ 2 = aLk T2 σ := rfl
theorem ml2 : mL 2 = 1 := rfl
theorem tb3 (σ : Nat → Value) : aTab σ 3 = aLk T3 σ := rfl
theorem ml3 : mL 3 = 2 := rfl
theorem tb4 (σ : Nat → Value) : aTab σ 4 = aLk T4 σ := rfl
theorem ml4 : mL 4 = 2 := rfl
theorem tb5 (σ : Nat → Value) : aTab σ 5 = aLk T5 σ := rfl
theorem ml5 : mL 5 = 1 := rfl
theorem tb6 (σ : Nat → Value) : aTab σ 6 = aLk T6 σ := rfl
theorem ml6 : mL 6 = 2 := rfl
theorem tb7 (σ : Nat → Value) : aTab σ 7 = aLk T7 σ := rfl
theorem ml7 : mL 7 = 2 := rfl
theorem tb8 (σ : Nat → Value) : aTab σ 8 = aLk T8 σ := rfl
theorem ml8 : mL 8 = 1 := rfl
theorem tb9 (σ : Nat → Value) : aTab σ 9 = aLk T9 σ := rfl
theorem ml9 : mL 9 = 3 := rfl
theorem tb10 (σ : Nat → Value) : aTab σ 10 = aLk T10 σ := rfl
theorem ml10 : mL 10 = 4 := rfl
theorem tb11 (σ : Nat → Value) : aTab σ 11 = aLk T11 σ := rfl
theorem ml11 : mL 11 = 2 := rfl
theorem tb12 (σ : Nat → Value) : aTab σ 12 = aLk T12 σ := rfl
theorem ml12 : mL 12 = 2 := rfl
theorem tb13 (σ : Nat → Value) : aTab σ 13 = aLk T13 σ := rfl
theorem ml13 : mL 13 = 3 := rfl
theorem tb14 (σ : Nat → Value) : aTab σ 14 = aLk T14 σ := rfl
theorem ml14 : mL 14 = 1 := rfl
theorem tb15 (σ : Nat → Value) : aTab σ 15 = aLk T15 σ := rfl
theorem ml15 : mL 15 = 1 := rfl
theorem tb16 (σ : Nat → Value) : aTab σ 16 = aLk T16 σ := rfl
theorem ml16 : mL 16 = 2 := rfl
theorem tb17 (σ : Nat → Value) : aTab σ 17 = aLk T17 σ := rfl
theorem ml17 : mL 17 = 3 := rfl
theorem tb18 (σ : Nat → Value) : aTab σ 18 = aLk T18 σ := rfl
theorem ml18 : mL 18 = 1 := rfl
theorem tb19 (σ : Nat → Value) : aTab σ 19 = aLk T19 σ := rfl
theorem ml19 : mL 19 = 1 := rfl
theorem tb20 (σ : Nat → Value) : aTab σ 20 = aLk T20 σ := rfl
theorem ml20 : mL 20 = 1 := rfl
theorem tb21 (σ : Nat → Value) : aTab σ 21 = aLk T21 σ := rfl
theorem ml21 : mL 21 = 4 := rfl
theorem tb22 (σ : Nat → Value) : aTab σ 22 = aLk T22 σ := rfl
theorem ml22 : mL 22 = 6 := rfl
theorem tb23 (σ : Nat → Value) : aTab σ 23 = aLk T23 σ := rfl
theorem ml23 : mL 23 = 5 := rfl
theorem tb24 (σ : Nat → Value) : aTab σ 24 = aLk T24 σ := rfl
theorem ml24 : mL 24 = 1 := rfl
theorem tb25 (σ : Nat → Value) : aTab σ 25 = aLk T25 σ := rfl
theorem ml25 : mL 25 = 1 := rfl
theorem tb26 (σ : Nat → Value) : aTab σ 26 = aLk T26 σ := rfl
theorem ml26 : mL 26 = 1 := rfl
theorem tb27 (σ : Nat → Value) : aTab σ 27 = aLk T27 σ := rfl
theorem ml27 : mL 27 = 1 := rfl
theorem tb28 (σ : Nat → Value) : aTab σ 28 = aLk T28 σ := rfl
theorem ml28 : mL 28 = 1 := rfl
theorem tb29 (σ : Nat → Value) : aTab σ 29 = aLk T29 σ := rfl
theorem ml29 : mL 29 = 1 := rfl
theorem tb30 (σ : Nat → Value) : aTab σ 30 = aLk T30 σ := rfl
theorem ml30 : mL 30 = 1 := rfl
theorem tb31 (σ : Nat → Value) : aTab σ 31 = aLk T31 σ := rfl
theorem ml31 : mL 31 = 3 := rfl
theorem tb32 (σ : Nat → Value) : aTab σ 32 = aLk T32 σ := rfl
theorem ml32 : mL 32 = 4 := rfl
theorem tb33 (σ : Nat → Value) : aTab σ 33 = aLk T33 σ := rfl
theorem ml33 : mL 33 = 1 := rfl
theorem tb34 (σ : Nat → Value) : aTab σ 34 = aLk T34 σ := rfl
theorem ml34 : mL 34 = 2 := rfl
theorem tb35 (σ : Nat → Value) : aTab σ 35 = aLk T35 σ := rfl
theorem ml35 : mL 35 = 2 := rfl
theorem tb36 (σ : Nat → Value) : aTab σ 36 = aLk T36 σ := rfl
theorem ml36 : mL 36 = 9 := rfl
theorem tb37 (σ : Nat → Value) : aTab σ 37 = aLk T37 σ := rfl
theorem ml37 : mL 37 = 2 := rfl
theorem tb38 (σ : Nat → Value) : aTab σ 38 = aLk T38 σ := rfl
theorem ml38 : mL 38 = 1 := rfl
theorem tb39 (σ : Nat → Value) : aTab σ 39 = aLk T39 σ := rfl
theorem ml39 : mL 39 = 5 := rfl
theorem tb40 (σ : Nat → Value) : aTab σ 40 = aLk T40 σ := rfl
theorem ml40 : mL 40 = 4 := rfl
theorem tb41 (σ : Nat → Value) : aTab σ 41 = aLk T41 σ := rfl
theorem ml41 : mL 41 = 4 := rfl
theorem tb42 (σ : Nat → Value) : aTab σ 42 = aLk T42 σ := rfl
theorem ml42 : mL 42 = 2 := rfl
theorem tb43 (σ : Nat → Value) : aTab σ 43 = aLk T43 σ := rfl
theorem ml43 : mL 43 = 2 := rfl
theorem tb44 (σ : Nat → Value) : aTab σ 44 = aLk T44 σ := rfl
theorem ml44 : mL 44 = 1 := rfl
theorem tb45 (σ : Nat → Value) : aTab σ 45 = aLk T45 σ := rfl
theorem ml45 : mL 45 = 3 := rfl
theorem tb46 (σ : Nat → Value) : aTab σ 46 = aLk T46 σ := rfl
theorem ml46 : mL 46 = 1 := rfl
theorem tb47 (σ : Nat → Value) : aTab σ 47 = aLk T47 σ := rfl
theorem ml47 : mL 47 = 5 := rfl
theorem tb48 (σ : Nat → Value) : aTab σ 48 = aLk T48 σ := rfl
theorem ml48 : mL 48 = 2 := rfl
theorem tb49 (σ : Nat → Value) : aTab σ 49 = aLk T49 σ := rfl
theorem ml49 : mL 49 = 4 := rfl
theorem tb50 (σ : Nat → Value) : aTab σ 50 = aLk T50 σ := rfl
theorem ml50 : mL 50 = 6 := rfl
theorem tb51 (σ : Nat → Value) : aTab σ 51 = aLk T51 σ := rfl
theorem ml51 : mL 51 = 4 := rfl
theorem tb52 (σ : Nat → Value) : aTab σ 52 = aLk T52 σ := rfl
theorem ml52 : mL 52 = 2 := rfl
theorem tb53 (σ : Nat → Value) : aTab σ 53 = aLk T53 σ := rfl
theorem ml53 : mL 53 = 4 := rfl
theorem tb54 (σ : Nat → Value) : aTab σ 54 = aLk T54 σ := rfl
theorem ml54 : mL 54 = 2 := rfl
theorem tb55 (σ : Nat → Value) : aTab σ 55 = aLk T55 σ := rfl
theorem ml55 : mL 55 = 1 := rfl
theorem tb56 (σ : Nat → Value) : aTab σ 56 = aLk T56 σ := rfl
theorem ml56 : mL 56 = 4 := rfl
theorem tb57 (σ : Nat → Value) : aTab σ 57 = aLk T57 σ := rfl
theorem ml57 : mL 57 = 2 := rfl
theorem tb58 (σ : Nat → Value) : aTab σ 58 = aLk T58 σ := rfl
theorem ml58 : mL 58 = 6 := rfl
theorem tb59 (σ : Nat → Value) : aTab σ 59 = aLk T59 σ := rfl
theorem ml59 : mL 59 = 1 := rfl
theorem tb60 (σ : Nat → Value) : aTab σ 60 = aLk T60 σ := rfl
theorem ml60 : mL 60 = 1 := rfl
theorem tb61 (σ : Nat → Value) : aTab σ 61 = aLk T61 σ := rfl
theorem ml61 : mL 61 = 2 := rfl
theorem tb62 (σ : Nat → Value) : aTab σ 62 = aLk T62 σ := rfl
theorem ml62 : mL 62 = 4 := rfl
theorem tb63 (σ : Nat → Value) : aTab σ 63 = aLk T63 σ := rfl
theorem ml63 : mL 63 = 1 := rfl
theorem tb64 (σ : Nat → Value) : aTab σ 64 = aLk T64 σ := rfl
theorem ml64 : mL 64 = 1 := rfl
theorem tb65 (σ : Nat → Value) : aTab σ 65 = aLk T65 σ := rfl
theorem ml65 : mL 65 = 2 := rfl
theorem tb66 (σ : Nat → Value) : aTab σ 66 = aLk T66 σ := rfl
theorem ml66 : mL 66 = 1 := rfl
theorem tb67 (σ : Nat → Value) : aTab σ 67 = aLk T67 σ := rfl
theorem ml67 : mL 67 = 1 := rfl
theorem tb68 (σ : Nat → Value) : aTab σ 68 = aLk T68 σ := rfl
theorem ml68 : mL 68 = 3 := rfl
theorem tb69 (σ : Nat → Value) : aTab σ 69 = aLk T69 σ := rfl
theorem ml69 : mL 69 = 3 := rfl
theorem tb70 (σ : Nat → Value) : aTab σ 70 = aLk T70 σ := rfl
theorem ml70 : mL 70 = 2 := rfl
theorem tb71 (σ : Nat → Value) : aTab σ 71 = aLk T71 σ := rfl
theorem ml71 : mL 71 = 4 := rfl
theorem tb72 (σ : Nat → Value) : aTab σ 72 = aLk T72 σ := rfl
theorem ml72 : mL 72 = 3 := rfl
theorem tb73 (σ : Nat → Value) : aTab σ 73 = aLk T73 σ := rfl
theorem ml73 : mL 73 = 4 := rfl
theorem tb74 (σ : Nat → Value) : aTab σ 74 = aLk T74 σ := rfl
theorem ml74 : mL 74 = 1 := rfl
theorem tb75 (σ : Nat → Value) : aTab σ 75 = aLk T75 σ := rfl
theorem ml75 : mL 75 = 1 := rfl
theorem tb76 (σ : Nat → Value) : aTab σ 76 = aLk T76 σ := rfl
theorem ml76 : mL 76 = 3 := rfl
theorem tb77 (σ : Nat → Value) : aTab σ 77 = aLk T77 σ := rfl
theorem ml77 : mL 77 = 3 := rfl
theorem tb78 (σ : Nat → Value) : aTab σ 78 = aLk T78 σ := rfl
theorem ml78 : mL 78 = 3 := rfl
theorem tb79 (σ : Nat → Value) : aTab σ 79 = aLk T79 σ := rfl
theorem ml79 : mL 79 = 3 := rfl
theorem tb80 (σ : Nat → Value) : aTab σ 80 = aLk T80 σ := rfl
theorem ml80 : mL 80 = 2 := rfl
theorem tb81 (σ : Nat → Value) : aTab σ 81 = aLk T81 σ := rfl
theorem ml81 : mL 81 = 1 := rfl
theorem tb82 (σ : Nat → Value) : aTab σ 82 = aLk T82 σ := rfl
theorem ml82 : mL 82 = 4 := rfl
theorem tb83 (σ : Nat → Value) : aTab σ 83 = aLk T83 σ := rfl
theorem ml83 : mL 83 = 2 := rfl
theorem tb84 (σ : Nat → Value) : aTab σ 84 = aLk T84 σ := rfl
theorem ml84 : mL 84 = 3 := rfl
theorem tb85 (σ : Nat → Value) : aTab σ 85 = aLk T85 σ := rfl
theorem ml85 : mL 85 = 1 := rfl
theorem tb86 (σ : Nat → Value) : aTab σ 86 = aLk T86 σ := rfl
theorem ml86 : mL 86 = 2 := rfl
theorem tb87 (σ : Nat → Value) : aTab σ 87 = aLk T87 σ := rfl
theorem ml87 : mL 87 = 1 := rfl
theorem tb88 (σ : Nat → Value) : aTab σ 88 = aLk T88 σ := rfl
theorem ml88 : mL 88 = 1 := rfl
theorem tb89 (σ : Nat → Value) : aTab σ 89 = aLk T89 σ := rfl
theorem ml89 : mL 89 = 3 := rfl
theorem tb90 (σ : Nat → Value) : aTab σ 90 = aLk T90 σ := rfl
theorem ml90 : mL 90 = 4 := rfl
theorem tb91 (σ : Nat → Value) : aTab σ 91 = aLk T91 σ := rfl
theorem ml91 : mL 91 = 3 := rfl
theorem tb92 (σ : Nat → Value) : aTab σ 92 = aLk T92 σ := rfl
theorem ml92 : mL 92 = 6 := rfl
theorem tb93 (σ : Nat → Value) : aTab σ 93 = aLk T93 σ := rfl
theorem ml93 : mL 93 = 9 := rfl
theorem tb94 (σ : Nat → Value) : aTab σ 94 = aLk T94 σ := rfl
theorem ml94 : mL 94 = 3 := rfl
theorem tb95 (σ : Nat → Value) : aTab σ 95 = aLk T95 σ := rfl
theorem ml95 : mL 95 = 6 := rfl
theorem tb96 (σ : Nat → Value) : aTab σ 96 = aLk T96 σ := rfl
theorem ml96 : mL 96 = 1 := rfl
theorem tb97 (σ : Nat → Value) : aTab σ 97 = aLk T97 σ := rfl
theorem ml97 : mL 97 = 1 := rfl
theorem tb98 (σ : Nat → Value) : aTab σ 98 = aLk T98 σ := rfl
theorem ml98 : mL 98 = 6 := rfl
theorem tb99 (σ : Nat → Value) : aTab σ 99 = aLk T99 σ := rfl
theorem ml99 : mL 99 = 3 := rfl
theorem tb100 (σ : Nat → Value) : aTab σ 100 = aLk T100 σ := rfl
theorem ml100 : mL 100 = 1 := rfl
theorem tb101 (σ : Nat → Value) : aTab σ 101 = aLk T101 σ := rfl
theorem ml101 : mL 101 = 3 := rfl
theorem tb102 (σ : Nat → Value) : aTab σ 102 = aLk T102 σ := rfl
theorem ml102 : mL 102 = 2 := rfl
theorem tb103 (σ : Nat → Value) : aTab σ 103 = aLk T103 σ := rfl
theorem ml103 : mL 103 = 3 := rfl
theorem tb104 (σ : Nat → Value) : aTab σ 104 = aLk T104 σ := rfl
theorem ml104 : mL 104 = 3 := rfl
theorem tb105 (σ : Nat → Value) : aTab σ 105 = aLk T105 σ := rfl
theorem ml105 : mL 105 = 5 := rfl
theorem tb106 (σ : Nat → Value) : aTab σ 106 = aLk T106 σ := rfl
theorem ml106 : mL 106 = 1 := rfl
theorem tb107 (σ : Nat → Value) : aTab σ 107 = aLk T107 σ := rfl
theorem ml107 : mL 107 = 1 := rfl
theorem tb108 (σ : Nat → Value) : aTab σ 108 = aLk T108 σ := rfl
theorem ml108 : mL 108 = 3 := rfl
theorem tb109 (σ : Nat → Value) : aTab σ 109 = aLk T109 σ := rfl
theorem ml109 : mL 109 = 10 := rfl
theorem tb110 (σ : Nat → Value) : aTab σ 110 = aLk T110 σ := rfl
theorem ml110 : mL 110 = 1 := rfl
theorem tb111 (σ : Nat → Value) : aTab σ 111 = aLk T111 σ := rfl
theorem ml111 : mL 111 = 3 := rfl
theorem tb112 (σ : Nat → Value) : aTab σ 112 = aLk T112 σ := rfl
theorem ml112 : mL 112 = 3 := rfl
theorem tb113 (σ : Nat → Value) : aTab σ 113 = aLk T113 σ := rfl
theorem ml113 : mL 113 = 2 := rfl
theorem tb114 (σ : Nat → Value) : aTab σ 114 = aLk T114 σ := rfl
theorem ml114 : mL 114 = 4 := rfl
theorem tb115 (σ : Nat → Value) : aTab σ 115 = aLk T115 σ := rfl
theorem ml115 : mL 115 = 1 := rfl
theorem tb116 (σ : Nat → Value) : aTab σ 116 = aLk T116 σ := rfl
theorem ml116 : mL 116 = 2 := rfl
theorem tb117 (σ : Nat → Value) : aTab σ 117 = aLk T117 σ := rfl
theorem ml117 : mL 117 = 2 := rfl
theorem tb118 (σ : Nat → Value) : aTab σ 118 = aLk T118 σ := rfl
theorem ml118 : mL 118 = 2 := rfl
theorem tb119 (σ : Nat → Value) : aTab σ 119 = aLk T119 σ := rfl
theorem ml119 : mL 119 = 4 := rfl
theorem tb120 (σ : Nat → Value) : aTab σ 120 = aLk T120 σ := rfl
theorem ml120 : mL 120 = 4 := rfl
theorem tb121 (σ : Nat → Value) : aTab σ 121 = aLk T121 σ := rfl
theorem ml121 : mL 121 = 19 := rfl
theorem tb122 (σ : Nat → Value) : aTab σ 122 = aLk T122 σ := rfl
theorem ml122 : mL 122 = 3 := rfl
theorem tb123 (σ : Nat → Value) : aTab σ 123 = aLk T123 σ := rfl
theorem ml123 : mL 123 = 2 := rfl
theorem tb124 (σ : Nat → Value) : aTab σ 124 = aLk T124 σ := rfl
theorem ml124 : mL 124 = 4 := rfl
theorem tb125 (σ : Nat → Value) : aTab σ 125 = aLk T125 σ := rfl
theorem ml125 : mL 125 = 15 := rfl
theorem tb126 (σ : Nat → Value) : aTab σ 126 = aLk T126 σ := rfl
theorem ml126 : mL 126 = 2 := rfl
theorem tb127 (σ : Nat → Value) : aTab σ 127 = aLk T127 σ := rfl
theorem ml127 : mL 127 = 1 := rfl
theorem tb128 (σ : Nat → Value) : aTab σ 128 = aLk T128 σ := rfl
theorem ml128 : mL 128 = 1 := rfl
theorem tb129 (σ : Nat → Value) : aTab σ 129 = aLk T129 σ := rfl
theorem ml129 : mL 129 = 1 := rfl
theorem tb130 (σ : Nat → Value) : aTab σ 130 = aLk T130 σ := rfl
theorem ml130 : mL 130 = 1 := rfl
theorem tb131 (σ : Nat → Value) : aTab σ 131 = aLk T131 σ := rfl
theorem ml131 : mL 131 = 3 := rfl
theorem tb132 (σ : Nat → Value) : aTab σ 132 = aLk T132 σ := rfl
theorem ml132 : mL 132 = 5 := rfl
theorem tb133 (σ : Nat → Value) : aTab σ 133 = aLk T133 σ := rfl
theorem ml133 : mL 133 = 3 := rfl
theorem tb134 (σ : Nat → Value) : aTab σ 134 = aLk T134 σ := rfl
theorem ml134 : mL 134 = 2 := rfl
theorem tb135 (σ : Nat → Value) : aTab σ 135 = aLk T135 σ := rfl
theorem ml135 : mL 135 = 6 := rfl
theorem tb136 (σ : Nat → Value) : aTab σ 136 = aLk T136 σ := rfl
theorem ml136 : mL 136 = 7 := rfl
theorem tb137 (σ : Nat → Value) : aTab σ 137 = aLk T137 σ := rfl
theorem ml137 : mL 137 = 4 := rfl
theorem tb138 (σ : Nat → Value) : aTab σ 138 = aLk T138 σ := rfl
theorem ml138 : mL 138 = 2 := rfl
theorem tb139 (σ : Nat → Value) : aTab σ 139 = aLk T139 σ := rfl
theorem ml139 : mL 139 = 5 := rfl
theorem tb140 (σ : Nat → Value) : aTab σ 140 = aLk T140 σ := rfl
theorem ml140 : mL 140 = 8 := rfl
theorem tb141 (σ : Nat → Value) : aTab σ 141 = aLk T141 σ := rfl
theorem ml141 : mL 141 = 2 := rfl
theorem tb142 (σ : Nat → Value) : aTab σ 142 = aLk T142 σ := rfl
theorem ml142 : mL 142 = 1 := rfl
theorem tb143 (σ : Nat → Value) : aTab σ 143 = aLk T143 σ := rfl
theorem ml143 : mL 143 = 1 := rfl
theorem tb144 (σ : Nat → Value) : aTab σ 144 = aLk T144 σ := rfl
theorem ml144 : mL 144 = 2 := rfl
theorem tb145 (σ : Nat → Value) : aTab σ 145 = aLk T145 σ := rfl
theorem ml145 : mL 145 = 2 := rfl
theorem tb146 (σ : Nat → Value) : aTab σ 146 = aLk T146 σ := rfl
theorem ml146 : mL 146 = 3 := rfl
theorem tb147 (σ : Nat → Value) : aTab σ 147 = aLk T147 σ := rfl
theorem ml147 : mL 147 = 8 := rfl
theorem tb148 (σ : Nat → Value) : aTab σ 148 = aLk T148 σ := rfl
theorem ml148 : mL 148 = 2 := rfl
theorem tb149 (σ : Nat → Value) : aTab σ 149 = aLk T149 σ := rfl
theorem ml149 : mL 149 = 9 := rfl
theorem tb150 (σ : Nat → Value) : aTab σ 150 = aLk T150 σ := rfl
theorem ml150 : mL 150 = 2 := rfl
theorem tb151 (σ : Nat → Value) : aTab σ 151 = aLk T151 σ := rfl
theorem ml151 : mL 151 = 3 := rfl
theorem tb152 (σ : Nat → Value) : aTab σ 152 = aLk T152 σ := rfl
theorem ml152 : mL 152 = 3 := rfl
theorem tb153 (σ : Nat → Value) : aTab σ 153 = aLk T153 σ := rfl
theorem ml153 : mL 153 = 8 := rfl
theorem tb154 (σ : Nat → Value) : aTab σ 154 = aLk T154 σ := rfl
theorem ml154 : mL 154 = 6 := rfl
theorem tb155 (σ : Nat → Value) : aTab σ 155 = aLk T155 σ := rfl
theorem ml155 : mL 155 = 3 := rfl
theorem tb156 (σ : Nat → Value) : aTab σ 156 = aLk T156 σ := rfl
theorem ml156 : mL 156 = 2 := rfl
theorem tb157 (σ : Nat → Value) : aTab σ 157 = aLk T157 σ := rfl
theorem ml157 : mL 157 = 4 := rfl
theorem tb158 (σ : Nat → Value) : aTab σ 158 = aLk T158 σ := rfl
theorem ml158 : mL 158 = 5 := rfl
theorem tb159 (σ : Nat → Value) : aTab σ 159 = aLk T159 σ := rfl
theorem ml159 : mL 159 = 5 := rfl
theorem tb160 (σ : Nat → Value) : aTab σ 160 = aLk T160 σ := rfl
theorem ml160 : mL 160 = 1 := rfl
theorem tb161 (σ : Nat → Value) : aTab σ 161 = aLk T161 σ := rfl
theorem ml161 : mL 161 = 1 := rfl
theorem tb162 (σ : Nat → Value) : aTab σ 162 = aLk T162 σ := rfl
theorem ml162 : mL 162 = 2 := rfl
theorem tb163 (σ : Nat → Value) : aTab σ 163 = aLk T163 σ := rfl
theorem ml163 : mL 163 = 2 := rfl
theorem tb164 (σ : Nat → Value) : aTab σ 164 = aLk T164 σ := rfl
theorem ml164 : mL 164 = 4 := rfl
theorem tb165 (σ : Nat → Value) : aTab σ 165 = aLk T165 σ := rfl
theorem ml165 : mL 165 = 1 := rfl
theorem tb166 (σ : Nat → Value) : aTab σ 166 = aLk T166 σ := rfl
theorem ml166 : mL 166 = 3 := rfl
theorem tb167 (σ : Nat → Value) : aTab σ 167 = aLk T167 σ := rfl
theorem ml167 : mL 167 = 9 := rfl
theorem tb168 (σ : Nat → Value) : aTab σ 168 = aLk T168 σ := rfl
theorem ml168 : mL 168 = 4 := rfl
theorem tb169 (σ : Nat → Value) : aTab σ 169 = aLk T169 σ := rfl
theorem ml169 : mL 169 = 5 := rfl
theorem tb170 (σ : Nat → Value) : aTab σ 170 = aLk T170 σ := rfl
theorem ml170 : mL 170 = 3 := rfl
theorem tb171 (σ : Nat → Value) : aTab σ 171 = aLk T171 σ := rfl
theorem ml171 : mL 171 = 4 := rfl
theorem tb172 (σ : Nat → Value) : aTab σ 172 = aLk T172 σ := rfl
theorem ml172 : mL 172 = 3 := rfl
theorem tb173 (σ : Nat → Value) : aTab σ 173 = aLk T173 σ := rfl
theorem ml173 : mL 173 = 7 := rfl
theorem tb174 (σ : Nat → Value) : aTab σ 174 = aLk T174 σ := rfl
theorem ml174 : mL 174 = 3 := rfl
theorem tb175 (σ : Nat → Value) : aTab σ 175 = aLk T175 σ := rfl
theorem ml175 : mL 175 = 2 := rfl
theorem tb176 (σ : Nat → Value) : aTab σ 176 = aLk T176 σ := rfl
theorem ml176 : mL 176 = 5 := rfl
theorem tb177 (σ : Nat → Value) : aTab σ 177 = aLk T177 σ := rfl
theorem ml177 : mL 177 = 3 := rfl
theorem tb178 (σ : Nat → Value) : aTab σ 178 = aLk T178 σ := rfl
theorem ml178 : mL 178 = 4 := rfl
theorem tb179 (σ : Nat → Value) : aTab σ 179 = aLk T179 σ := rfl
theorem ml179 : mL 179 = 2 := rfl
theorem tb180 (σ : Nat → Value) : aTab σ 180 = aLk T180 σ := rfl
theorem ml180 : mL 180 = 4 := rfl
theorem tb181 (σ : Nat → Value) : aTab σ 181 = aLk T181 σ := rfl
theorem ml181 : mL 181 = 5 := rfl
theorem tb182 (σ : Nat → Value) : aTab σ 182 = aLk T182 σ := rfl
theorem ml182 : mL 182 = 8 := rfl
theorem tb183 (σ : Nat → Value) : aTab σ 183 = aLk T183 σ := rfl
theorem ml183 : mL 183 = 4 := rfl
theorem tb184 (σ : Nat → Value) : aTab σ 184 = aLk T184 σ := rfl
theorem ml184 : mL 184 = 6 := rfl
theorem tb185 (σ : Nat → Value) : aTab σ 185 = aLk T185 σ := rfl
theorem ml185 : mL 185 = 4 := rfl
theorem tb186 (σ : Nat → Value) : aTab σ 186 = aLk T186 σ := rfl
theorem ml186 : mL 186 = 6 := rfl
theorem tb187 (σ : Nat → Value) : aTab σ 187 = aLk T187 σ := rfl
theorem ml187 : mL 187 = 7 := rfl
theorem tb188 (σ : Nat → Value) : aTab σ 188 = aLk T188 σ := rfl
theorem ml188 : mL 188 = 1 := rfl
theorem tb189 (σ : Nat → Value) : aTab σ 189 = aLk T189 σ := rfl
theorem ml189 : mL 189 = 3 := rfl
theorem tb190 (σ : Nat → Value) : aTab σ 190 = aLk T190 σ := rfl
theorem ml190 : mL 190 = 8 := rfl
theorem tb191 (σ : Nat → Value) : aTab σ 191 = aLk T191 σ := rfl
theorem ml191 : mL 191 = 3 := rfl
theorem tb192 (σ : Nat → Value) : aTab σ 192 = aLk T192 σ := rfl
theorem ml192 : mL 192 = 1 := rfl
theorem tb193 (σ : Nat → Value) : aTab σ 193 = aLk T193 σ := rfl
theorem ml193 : mL 193 = 3 := rfl
theorem tb194 (σ : Nat → Value) : aTab σ 194 = aLk T194 σ := rfl
theorem ml194 : mL 194 = 4 := rfl
theorem tb195 (σ : Nat → Value) : aTab σ 195 = aLk T195 σ := rfl
theorem ml195 : mL 195 = 3 := rfl
theorem tb196 (σ : Nat → Value) : aTab σ 196 = aLk T196 σ := rfl
theorem ml196 : mL 196 = 3 := rfl
theorem tb197 (σ : Nat → Value) : aTab σ 197 = aLk T197 σ := rfl
theorem ml197 : mL 197 = 4 := rfl
theorem tb198 (σ : Nat → Value) : aTab σ 198 = aLk T198 σ := rfl
theorem ml198 : mL 198 = 5 := rfl
theorem tb199 (σ : Nat → Value) : aTab σ 199 = aLk T199 σ := rfl
theorem ml199 : mL 199 = 3 := rfl
theorem tb200 (σ : Nat → Value) : aTab σ 200 = aLk T200 σ := rfl
theorem ml200 : mL 200 = 11 := rfl
theorem tb201 (σ : Nat → Value) : aTab σ 201 = aLk T201 σ := rfl
theorem ml201 : mL 201 = 3 := rfl
theorem tb202 (σ : Nat → Value) : aTab σ 202 = aLk T202 σ := rfl
theorem ml202 : mL 202 = 4 := rfl
theorem tb203 (σ : Nat → Value) : aTab σ 203 = aLk T203 σ := rfl
theorem ml203 : mL 203 = 2 := rfl
theorem tb204 (σ : Nat → Value) : aTab σ 204 = aLk T204 σ := rfl
theorem ml204 : mL 204 = 6 := rfl
theorem tb205 (σ : Nat → Value) : aTab σ 205 = aLk T205 σ := rfl
theorem ml205 : mL 205 = 5 := rfl
theorem tb206 (σ : Nat → Value) : aTab σ 206 = aLk T206 σ := rfl
theorem ml206 : mL 206 = 5 := rfl
theorem tb207 (σ : Nat → Value) : aTab σ 207 = aLk T207 σ := rfl
theorem ml207 : mL 207 = 6 := rfl
theorem tb208 (σ : Nat → Value) : aTab σ 208 = aLk T208 σ := rfl
theorem ml208 : mL 208 = 5 := rfl
theorem tb209 (σ : Nat → Value) : aTab σ 209 = aLk T209 σ := rfl
theorem ml209 : mL 209 = 4 := rfl
theorem tb210 (σ : Nat → Value) : aTab σ 210 = aLk T210 σ := rfl
theorem ml210 : mL 210 = 13 := rfl
theorem tb211 (σ : Nat → Value) : aTab σ 211 = aLk T211 σ := rfl
theorem ml211 : mL 211 = 3 := rfl
theorem tb212 (σ : Nat → Value) : aTab σ 212 = aLk T212 σ := rfl
theorem ml212 : mL 212 = 2 := rfl
theorem tb213 (σ : Nat → Value) : aTab σ 213 = aLk T213 σ := rfl
theorem ml213 : mL 213 = 2 := rfl
theorem tb214 (σ : Nat → Value) : aTab σ 214 = aLk T214 σ := rfl
theorem ml214 : mL 214 = 2 := rfl
theorem tb215 (σ : Nat → Value) : aTab σ 215 = aLk T215 σ := rfl
theorem ml215 : mL 215 = 7 := rfl
theorem tb216 (σ : Nat → Value) : aTab σ 216 = aLk T216 σ := rfl
theorem ml216 : mL 216 = 5 := rfl
theorem tb217 (σ : Nat → Value) : aTab σ 217 = aLk T217 σ := rfl
theorem ml217 : mL 217 = 7 := rfl
theorem tb218 (σ : Nat → Value) : aTab σ 218 = aLk T218 σ := rfl
theorem ml218 : mL 218 = 2 := rfl
theorem tb219 (σ : Nat → Value) : aTab σ 219 = aLk T219 σ := rfl
theorem ml219 : mL 219 = 3 := rfl
theorem tb220 (σ : Nat → Value) : aTab σ 220 = aLk T220 σ := rfl
theorem ml220 : mL 220 = 8 := rfl
theorem tb221 (σ : Nat → Value) : aTab σ 221 = aLk T221 σ := rfl
theorem ml221 : mL 221 = 4 := rfl
theorem tb222 (σ : Nat → Value) : aTab σ 222 = aLk T222 σ := rfl
theorem ml222 : mL 222 = 2 := rfl
theorem tb223 (σ : Nat → Value) : aTab σ 223 = aLk T223 σ := rfl
theorem ml223 : mL 223 = 1 := rfl
theorem tb224 (σ : Nat → Value) : aTab σ 224 = aLk T224 σ := rfl
theorem ml224 : mL 224 = 6 := rfl
theorem tb225 (σ : Nat → Value) : aTab σ 225 = aLk T225 σ := rfl
theorem ml225 : mL 225 = 4 := rfl
theorem tb226 (σ : Nat → Value) : aTab σ 226 = aLk T226 σ := rfl
theorem ml226 : mL 226 = 2 := rfl
theorem tb227 (σ : Nat → Value) : aTab σ 227 = aLk T227 σ := rfl
theorem ml227 : mL 227 = 3 := rfl
theorem tb228 (σ : Nat → Value) : aTab σ 228 = aLk T228 σ := rfl
theorem ml228 : mL 228 = 4 := rfl
theorem tb229 (σ : Nat → Value) : aTab σ 229 = aLk T229 σ := rfl
theorem ml229 : mL 229 = 4 := rfl
theorem tb230 (σ : Nat → Value) : aTab σ 230 = aLk T230 σ := rfl
theorem ml230 : mL 230 = 4 := rfl
theorem tb231 (σ : Nat → Value) : aTab σ 231 = aLk T231 σ := rfl
theorem ml231 : mL 231 = 3 := rfl
theorem tb232 (σ : Nat → Value) : aTab σ 232 = aLk T232 σ := rfl
theorem ml232 : mL 232 = 4 := rfl
theorem tb233 (σ : Nat → Value) : aTab σ 233 = aLk T233 σ := rfl
theorem ml233 : mL 233 = 4 := rfl
theorem tb234 (σ : Nat → Value) : aTab σ 234 = aLk T234 σ := rfl
theorem ml234 : mL 234 = 9 := rfl
theorem tb235 (σ : Nat → Value) : aTab σ 235 = aLk T235 σ := rfl
theorem ml235 : mL 235 = 5 := rfl
theorem tb236 (σ : Nat → Value) : aTab σ 236 = aLk T236 σ := rfl
theorem ml236 : mL 236 = 5 := rfl
theorem tb237 (σ : Nat → Value) : aTab σ 237 = aLk T237 σ := rfl
theorem ml237 : mL 237 = 5 := rfl
theorem tb238 (σ : Nat → Value) : aTab σ 238 = aLk T238 σ := rfl
theorem ml238 : mL 238 = 4 := rfl
theorem tb239 (σ : Nat → Value) : aTab σ 239 = aLk T239 σ := rfl
theorem ml239 : mL 239 = 4 := rfl
theorem tb240 (σ : Nat → Value) : aTab σ 240 = aLk T240 σ := rfl
theorem ml240 : mL 240 = 5 := rfl
theorem tb241 (σ : Nat → Value) : aTab σ 241 = aLk T241 σ := rfl
theorem ml241 : mL 241 = 3 := rfl
theorem tb242 (σ : Nat → Value) : aTab σ 242 = aLk T242 σ := rfl
theorem ml242 : mL 242 = 4 := rfl
theorem tb243 (σ : Nat → Value) : aTab σ 243 = aLk T243 σ := rfl
theorem ml243 : mL 243 = 4 := rfl
theorem tb244 (σ : Nat → Value) : aTab σ 244 = aLk T244 σ := rfl
theorem ml244 : mL 244 = 5 := rfl
theorem tb245 (σ : Nat → Value) : aTab σ 245 = aLk T245 σ := rfl
theorem ml245 : mL 245 = 4 := rfl
theorem tb246 (σ : Nat → Value) : aTab σ 246 = aLk T246 σ := rfl
theorem ml246 : mL 246 = 6 := rfl
theorem tb247 (σ : Nat → Value) : aTab σ 247 = aLk T247 σ := rfl
theorem ml247 : mL 247 = 5 := rfl
theorem tb248 (σ : Nat → Value) : aTab σ 248 = aLk T248 σ := rfl
theorem ml248 : mL 248 = 4 := rfl
theorem tb249 (σ : Nat → Value) : aTab σ 249 = aLk T249 σ := rfl
theorem ml249 : mL 249 = 4 := rfl
theorem tb250 (σ : Nat → Value) : aTab σ 250 = aLk T250 σ := rfl
theorem ml250 : mL 250 = 6 := rfl
theorem tb251 (σ : Nat → Value) : aTab σ 251 = aLk T251 σ := rfl
theorem ml251 : mL 251 = 4 := rfl
theorem tb252 (σ : Nat → Value) : aTab σ 252 = aLk T252 σ := rfl
theorem ml252 : mL 252 = 4 := rfl
theorem tb253 (σ : Nat → Value) : aTab σ 253 = aLk T253 σ := rfl
theorem ml253 : mL 253 = 1 := rfl
theorem tb254 (σ : Nat → Value) : aTab σ 254 = aLk T254 σ := rfl
theorem ml254 : mL 254 = 13 := rfl
theorem tb255 (σ : Nat → Value) : aTab σ 255 = aLk T255 σ := rfl
theorem ml255 : mL 255 = 4 := rfl
theorem tb256 (σ : Nat → Value) : aTab σ 256 = aLk T256 σ := rfl
theorem ml256 : mL 256 = 3 := rfl
theorem tb257 (σ : Nat → Value) : aTab σ 257 = aLk T257 σ := rfl
theorem ml257 : mL 257 = 3 := rfl
theorem tb258 (σ : Nat → Value) : aTab σ 258 = aLk T258 σ := rfl
theorem ml258 : mL 258 = 10 := rfl
theorem tb259 (σ : Nat → Value) : aTab σ 259 = aLk T259 σ := rfl
theorem ml259 : mL 259 = 5 := rfl
theorem tb260 (σ : Nat → Value) : aTab σ 260 = aLk T260 σ := rfl
theorem ml260 : mL 260 = 2 := rfl
theorem tb261 (σ : Nat → Value) : aTab σ 261 = aLk T261 σ := rfl
theorem ml261 : mL 261 = 3 := rfl
theorem tb262 (σ : Nat → Value) : aTab σ 262 = aLk T262 σ := rfl
theorem ml262 : mL 262 = 7 := rfl
theorem tb263 (σ : Nat → Value) : aTab σ 263 = aLk T263 σ := rfl
theorem ml263 : mL 263 = 3 := rfl
theorem tb264 (σ : Nat → Value) : aTab σ 264 = aLk T264 σ := rfl
theorem ml264 : mL 264 = 8 := rfl
theorem tb265 (σ : Nat → Value) : aTab σ 265 = aLk T265 σ := rfl
theorem ml265 : mL 265 = 2 := rfl
theorem tb266 (σ : Nat → Value) : aTab σ 266 = aLk T266 σ := rfl
theorem ml266 : mL 266 = 1 := rfl
theorem tb267 (σ : Nat → Value) : aTab σ 267 = aLk T267 σ := rfl
theorem ml267 : mL 267 = 5 := rfl
theorem tb268 (σ : Nat → Value) : aTab σ 268 = aLk T268 σ := rfl
theorem ml268 : mL 268 = 7 := rfl
theorem tb269 (σ : Nat → Value) : aTab σ 269 = aLk T269 σ := rfl
theorem ml269 : mL 269 = 2 := rfl
theorem tb270 (σ : Nat → Value) : aTab σ 270 = aLk T270 σ := rfl
theorem ml270 : mL 270 = 3 := rfl
theorem tb271 (σ : Nat → Value) : aTab σ 271 = aLk T271 σ := rfl
theorem ml271 : mL 271 = 8 := rfl
theorem tb272 (σ : Nat → Value) : aTab σ 272 = aLk T272 σ := rfl
theorem ml272 : mL 272 = 3 := rfl
theorem tb273 (σ : Nat → Value) : aTab σ 273 = aLk T273 σ := rfl
theorem ml273 : mL 273 = 9 := rfl
theorem tb274 (σ : Nat → Value) : aTab σ 274 = aLk T274 σ := rfl
theorem ml274 : mL 274 = 9 := rfl
theorem tb275 (σ : Nat → Value) : aTab σ 275 = aLk T275 σ := rfl
theorem ml275 : mL 275 = 5 := rfl
theorem tb276 (σ : Nat → Value) : aTab σ 276 = aLk T276 σ := rfl
theorem ml276 : mL 276 = 7 := rfl
theorem tb277 (σ : Nat → Value) : aTab σ 277 = aLk T277 σ := rfl
theorem ml277 : mL 277 = 3 := rfl
theorem tb278 (σ : Nat → Value) : aTab σ 278 = aLk T278 σ := rfl
theorem ml278 : mL 278 = 6 := rfl
theorem tb279 (σ : Nat → Value) : aTab σ 279 = aLk T279 σ := rfl
theorem ml279 : mL 279 = 5 := rfl
theorem tb280 (σ : Nat → Value) : aTab σ 280 = aLk T280 σ := rfl
theorem ml280 : mL 280 = 5 := rfl
theorem tb281 (σ : Nat → Value) : aTab σ 281 = aLk T281 σ := rfl
theorem ml281 : mL 281 = 3 := rfl
theorem tb282 (σ : Nat → Value) : aTab σ 282 = aLk T282 σ := rfl
theorem ml282 : mL 282 = 1 := rfl
theorem tb283 (σ : Nat → Value) : aTab σ 283 = aLk T283 σ := rfl
theorem ml283 : mL 283 = 5 := rfl
theorem tb284 (σ : Nat → Value) : aTab σ 284 = aLk T284 σ := rfl
theorem ml284 : mL 284 = 3 := rfl
theorem tb285 (σ : Nat → Value) : aTab σ 285 = aLk T285 σ := rfl
theorem ml285 : mL 285 = 2 := rfl
theorem tb286 (σ : Nat → Value) : aTab σ 286 = aLk T286 σ := rfl
theorem ml286 : mL 286 = 6 := rfl
theorem tb287 (σ : Nat → Value) : aTab σ 287 = aLk T287 σ := rfl
theorem ml287 : mL 287 = 4 := rfl
theorem tb288 (σ : Nat → Value) : aTab σ 288 = aLk T288 σ := rfl
theorem ml288 : mL 288 = 4 := rfl
theorem tb289 (σ : Nat → Value) : aTab σ 289 = aLk T289 σ := rfl
theorem ml289 : mL 289 = 4 := rfl
theorem tb290 (σ : Nat → Value) : aTab σ 290 = aLk T290 σ := rfl
theorem ml290 : mL 290 = 7 := rfl
theorem tb291 (σ : Nat → Value) : aTab σ 291 = aLk T291 σ := rfl
theorem ml291 : mL 291 = 3 := rfl
theorem tb292 (σ : Nat → Value) : aTab σ 292 = aLk T292 σ := rfl
theorem ml292 : mL 292 = 8 := rfl
theorem tb293 (σ : Nat → Value) : aTab σ 293 = aLk T293 σ := rfl
theorem ml293 : mL 293 = 3 := rfl
theorem tb294 (σ : Nat → Value) : aTab σ 294 = aLk T294 σ := rfl
theorem ml294 : mL 294 = 3 := rfl
theorem tb295 (σ : Nat → Value) : aTab σ 295 = aLk T295 σ := rfl
theorem ml295 : mL 295 = 11 := rfl
theorem tb296 (σ : Nat → Value) : aTab σ 296 = aLk T296 σ := rfl
theorem ml296 : mL 296 = 2 := rfl
theorem tb297 (σ : Nat → Value) : aTab σ 297 = aLk T297 σ := rfl
theorem ml297 : mL 297 = 2 := rfl
theorem tb298 (σ : Nat → Value) : aTab σ 298 = aLk T298 σ := rfl
theorem ml298 : mL 298 = 3 := rfl
theorem tb299 (σ : Nat → Value) : aTab σ 299 = aLk T299 σ := rfl
theorem ml299 : mL 299 = 4 := rfl
theorem tb300 (σ : Nat → Value) : aTab σ 300 = aLk T300 σ := rfl
theorem ml300 : mL 300 = 4 := rfl
theorem tb301 (σ : Nat → Value) : aTab σ 301 = aLk T301 σ := rfl
theorem ml301 : mL 301 = 3 := rfl
theorem tb302 (σ : Nat → Value) : aTab σ 302 = aLk T302 σ := rfl
theorem ml302 : mL 302 = 10 := rfl
theorem tb303 (σ : Nat → Value) : aTab σ 303 = aLk T303 σ := rfl
theorem ml303 : mL 303 = 6 := rfl
theorem tb304 (σ : Nat → Value) : aTab σ 304 = aLk T304 σ := rfl
theorem ml304 : mL 304 = 7 := rfl
theorem tb305 (σ : Nat → Value) : aTab σ 305 = aLk T305 σ := rfl
theorem ml305 : mL 305 = 3 := rfl
theorem tb306 (σ : Nat → Value) : aTab σ 306 = aLk T306 σ := rfl
theorem ml306 : mL 306 = 4 := rfl
theorem tb307 (σ : Nat → Value) : aTab σ 307 = aLk T307 σ := rfl
theorem ml307 : mL 307 = 6 := rfl
theorem tb308 (σ : Nat → Value) : aTab σ 308 = aLk T308 σ := rfl
theorem ml308 : mL 308 = 4 := rfl
theorem tb309 (σ : Nat → Value) : aTab σ 309 = aLk T309 σ := rfl
theorem ml309 : mL 309 = 4 := rfl
theorem tb310 (σ : Nat → Value) : aTab σ 310 = aLk T310 σ := rfl
theorem ml310 : mL 310 = 1 := rfl
theorem tb311 (σ : Nat → Value) : aTab σ 311 = aLk T311 σ := rfl
theorem ml311 : mL 311 = 7 := rfl
theorem tb312 (σ : Nat → Value) : aTab σ 312 = aLk T312 σ := rfl
theorem ml312 : mL 312 = 4 := rfl
theorem tb313 (σ : Nat → Value) : aTab σ 313 = aLk T313 σ := rfl
theorem ml313 : mL 313 = 4 := rfl
theorem tb314 (σ : Nat → Value) : aTab σ 314 = aLk T314 σ := rfl
theorem ml314 : mL 314 = 2 := rfl
theorem tb315 (σ : Nat → Value) : aTab σ 315 = aLk T315 σ := rfl
theorem ml315 : mL 315 = 3 := rfl
theorem tb316 (σ : Nat → Value) : aTab σ 316 = aLk T316 σ := rfl
theorem ml316 : mL 316 = 2 := rfl
theorem tb317 (σ : Nat → Value) : aTab σ 317 = aLk T317 σ := rfl
theorem ml317 : mL 317 = 2 := rfl
theorem tb318 (σ : Nat → Value) : aTab σ 318 = aLk T318 σ := rfl
theorem ml318 : mL 318 = 8 := rfl
theorem tb319 (σ : Nat → Value) : aTab σ 319 = aLk T319 σ := rfl
theorem ml319 : mL 319 = 4 := rfl
theorem tb320 (σ : Nat → Value) : aTab σ 320 = aLk T320 σ := rfl
theorem ml320 : mL 320 = 4 := rfl
theorem tb321 (σ : Nat → Value) : aTab σ 321 = aLk T321 σ := rfl
theorem ml321 : mL 321 = 4 := rfl
theorem tb322 (σ : Nat → Value) : aTab σ 322 = aLk T322 σ := rfl
theorem ml322 : mL 322 = 2 := rfl
theorem tb323 (σ : Nat → Value) : aTab σ 323 = aLk T323 σ := rfl
theorem ml323 : mL 323 = 3 := rfl
theorem tb324 (σ : Nat → Value) : aTab σ 324 = aLk T324 σ := rfl
theorem ml324 : mL 324 = 8 := rfl
theorem tb325 (σ : Nat → Value) : aTab σ 325 = aLk T325 σ := rfl
theorem ml325 : mL 325 = 4 := rfl
theorem tb326 (σ : Nat → Value) : aTab σ 326 = aLk T326 σ := rfl
theorem ml326 : mL 326 = 6 := rfl
theorem tb327 (σ : Nat → Value) : aTab σ 327 = aLk T327 σ := rfl
theorem ml327 : mL 327 = 3 := rfl
theorem tb328 (σ : Nat → Value) : aTab σ 328 = aLk T328 σ := rfl
theorem ml328 : mL 328 = 2 := rfl
theorem tb329 (σ : Nat → Value) : aTab σ 329 = aLk T329 σ := rfl
theorem ml329 : mL 329 = 1 := rfl
theorem tb330 (σ : Nat → Value) : aTab σ 330 = aLk T330 σ := rfl
theorem ml330 : mL 330 = 2 := rfl
theorem tb331 (σ : Nat → Value) : aTab σ 331 = aLk T331 σ := rfl
theorem ml331 : mL 331 = 1 := rfl
theorem tb332 (σ : Nat → Value) : aTab σ 332 = aLk T332 σ := rfl
theorem ml332 : mL 332 = 2 := rfl
theorem tb333 (σ : Nat → Value) : aTab σ 333 = aLk T333 σ := rfl
theorem ml333 : mL 333 = 4 := rfl
theorem tb334 (σ : Nat → Value) : aTab σ 334 = aLk T334 σ := rfl
theorem ml334 : mL 334 = 6 := rfl
theorem tb335 (σ : Nat → Value) : aTab σ 335 = aLk T335 σ := rfl
theorem ml335 : mL 335 = 4 := rfl
theorem tb336 (σ : Nat → Value) : aTab σ 336 = aLk T336 σ := rfl
theorem ml336 : mL 336 = 2 := rfl
theorem tb337 (σ : Nat → Value) : aTab σ 337 = aLk T337 σ := rfl
theorem ml337 : mL 337 = 6 := rfl
theorem tb338 (σ : Nat → Value) : aTab σ 338 = aLk T338 σ := rfl
theorem ml338 : mL 338 = 2 := rfl
theorem tb339 (σ : Nat → Value) : aTab σ 339 = aLk T339 σ := rfl
theorem ml339 : mL 339 = 5 := rfl
theorem tb340 (σ : Nat → Value) : aTab σ 340 = aLk T340 σ := rfl
theorem ml340 : mL 340 = 4 := rfl
theorem r0_0 (σ : Nat → Value) (g : aG) (ls st : List Value) (h : aH) (k s : Nat) : Rn (aLk T0 σ) g 0 ls st h k s = (i_aload 0 1) g (Rn (aLk T0 σ) g) ls st h k s := Rn.go mo0 rfl g ls st h k s
theorem r0_1 (σ : Nat → Value) (g : aG) (ls st : List Value) (h : aH) (k s : Nat) : Rn (aLk T0 σ) g 1 ls st h k s = (i_aload 1 2) g (Rn (aLk T0 σ) g) ls st h k s := Rn.go mo0 rfl g ls st h k s
theorem r0_2 (σ : Nat → Value) (g : aG) (ls st : List Value) (h : aH) (k s : Nat) : Rn (aLk T0 σ) g 2 ls st h k s = (i_aload 2 3) g (Rn (aLk T0 σ) g) ls st h k s := Rn.go mo0 rfl g ls st h k s
theorem r0_3 (σ : Nat → Value) (g : aG) (ls st : List Value) (h : aH) (k s : Nat) : Rn (aLk T0 σ) g 3 ls st h k s = (i_iload 3 4) g (Rn (aLk T0 σ) g) ls st h k s := Rn.go mo0 rfl g ls st h k s
theorem r0_4 (σ : Nat → Value) (g : aG) (ls st : List Value) (h : aH) (k s : Nat) : Rn (aLk T0 σ) g 4 ls st h k s = (i_iload 4 6) g (Rn (aLk T0 σ) g) ls st h k s := Rn.go mo0 rfl g ls st h k s
theorem r0_6 (σ : Nat → Value) (g : aG) (ls st : List Value) (h : aH) (k s : Nat) : Rn (aLk T0 σ) g 6 ls st h k s = (i_callI 23 4 [] 9) g (Rn (aLk T0 σ) g) ls st h k s := Rn.go mo0 rfl g ls st h k s
theorem r0_9 (σ : Nat → Value) (g : aG) (ls st : List Value) (h : aH) (k s : Nat) : Rn (aLk T0 σ) g 9 ls st h k s = (i_ret) g (Rn (aLk T0 σ) g) ls st h k s := Rn.go mo0 rfl g ls st h k s
theorem r1_0 (σ : Nat → Value) (g : aG) (ls st : List Value) (h : aH) (k s : Nat) : Rn (aLk T1 σ) g 0 ls st h k s = (i_aload 0 1) g (Rn (aLk T1 σ) g) ls st h k s := Rn.go mo1 rfl g ls st h k s
theorem r1_1 (σ : Nat → Value) (g : aG) (ls st : List Value) (h : aH) (k s : Nat) : Rn (aLk T1 σ) g 1 ls st h k s = (i_callI 14 0 [] 4) g (Rn (aLk T1 σ) g) ls st h k s := Rn.go mo1 rfl g ls st h k s
theorem r1_4 (σ : Nat → Value) (g : aG) (ls st : List Value) (h : aH) (k s : Nat) : Rn (aLk T1 σ) g 4 ls st h k s = (i_aload 0 5) g (Rn (aLk T1 σ) g) ls st h k s := Rn.go mo1 rfl g ls st h k s
theorem r1_5 (σ : Nat → Value) (g : aG) (ls st : List Value) (h : aH) (k s : Nat) : Rn (aLk T1 σ) g 5 ls st h k s = (i_iload 1 6) g (Rn (aLk T1 σ) g) ls st h k s := Rn.go mo1 rfl g ls st h k s
theorem r1_6 (σ : Nat → Value) (g : aG) (ls st : List Value) (h : aH) (k s : Nat) : Rn (aLk T1 σ) g 6 ls st h k s = (i_putf 3 0 .int 9) g (Rn (aLk T1 σ) g) ls st h k s := Rn.go mo1 rfl g ls st h k s
theorem r1_9 (σ : Nat → Value) (g : aG) (ls st : List Value) (h : aH) (k s : Nat) : Rn (aLk T1 σ) g 9 ls st h k s = (i_ret) g (Rn (aLk T1 σ) g) ls st h k s := Rn.go mo1 rfl g ls st h k s
theorem r2_0 (σ : Nat → Value) (g : aG) (ls st : List Value) (h : aH) (k s : Nat) : Rn (aLk T2 σ) g 0 ls st h k s = (i_iload 0 1) g (Rn (aLk T2 σ) g) ls st h k s := Rn.go mo2 rfl g ls st h k s
theorem r2_1 (σ : Nat → Value) (g : aG) (ls st : List Value) (h : aH) (k s : Nat) : Rn (aLk T2 σ) g 1 ls st h k s = (i_iload 0 2) g (Rn (aLk T2 σ) g) ls st h k s := Rn.go mo2 rfl g ls st h k s
theorem r2_2 (σ : Nat → Value) (g : aG) (ls st : List Value) (h : aH) (k s : Nat) : Rn (aLk T2 σ) g 2 ls st h k s = (i_op (o_int 1) 3) g (Rn (aLk T2 σ) g) ls st h k s := Rn.go mo2 rfl g ls st h k s
theorem r2_3 (σ : Nat → Value) (g : aG) (ls st : List Value) (h : aH) (k s : Nat) : Rn (aLk T2 σ) g 3 ls st h k s = (i_op o_iushr 4) g (Rn (aLk T2 σ) g) ls st h k s := Rn.go mo2 rfl g ls st h k s
theorem r2_4 (σ : Nat → Value) (g : aG) (ls st : List Value) (h : aH) (k s : Nat) : Rn (aLk T2 σ) g 4 ls st h k s = (i_op (o_int 1431655765) 7) g (Rn (aLk T2 σ) g) ls st h k s := Rn.go mo2 rfl g ls st h k s
theorem r2_7 (σ : Nat → Value) (g : aG) (ls st : List Value) (h : aH) (k s : Nat) : Rn (aLk T2 σ) g 7 ls st h k s = (i_op o_iand 8) g (Rn (aLk T2 σ) g) ls st h k s := Rn.go mo2 rfl g ls st h k s
theorem r2_8 (σ : Nat → Value) (g : aG) (ls st : List Value) (h : aH) (k s : Nat) : Rn (aLk T2 σ) g 8 ls st h k s = (i_op o_isub 9) g (Rn (aLk T2 σ) g) ls st h k s := Rn.go mo2 rfl g ls st h k s
theorem r2_9 (σ : Nat → Value) (g : aG) (ls st : List Value) (h : aH) (k s : Nat) : Rn (aLk T2 σ) g 9 ls st h k s = (i_istore 0 10) g (Rn (aLk T2 σ) g) ls st h k s := Rn.go mo2 rfl g ls st h k s
theorem r2_10 (σ : Nat → Value) (g : aG) (ls st : List Value) (h : aH) (k s : Nat) : Rn (aLk T2 σ) g 10 ls st h k s = (i_iload 0 11) g (Rn (aLk T2 σ) g) ls st h k s := Rn.go mo2 rfl g ls st h k s
theorem r2_11 (σ : Nat → Value) (g : aG) (ls st : List Value) (h : aH) (k s : Nat) : Rn (aLk T2 σ) g 11 ls st h k s = (i_op (o_int 858993459) 14) g (Rn (aLk T2 σ) g) ls st h k s := Rn.go mo2 rfl g ls st h k s
theorem r2_14 (σ : Nat → Value) (g : aG) (ls st : List Value) (h : aH) (k s : Nat) : Rn (aLk T2 σ) g 14 ls st h k s = (i_op o_iand 15) g (Rn (aLk T2 σ) g) ls st h k s := Rn.go mo2 rfl g ls st h k s
theorem r2_15 (σ : Nat → Value) (g : aG) (ls st : List Value) (h : aH) (k s : Nat) : Rn (aLk T2 σ) g 15 ls st h k s = (i_iload 0 16) g (Rn (aLk T2 σ) g) ls st h k s := Rn.go mo2 rfl g ls st h k s
theorem r2_16 (σ : Nat → Value) (g : aG) (ls st : List Value) (h : aH) (k s : Nat) : Rn (aLk T2 σ) g 16 ls st h k s = (i_op (o_int 2) 17) g (Rn (aLk T2 σ) g) ls st h k s := Rn.go mo2 rfl g ls st h k s
theorem r2_17 (σ : Nat → Value) (g : aG) (ls st : List Value) (h : aH) (k s : Nat) : Rn (aLk T2 σ) g 17 ls st h k s = (i_op o_iushr 18) g (Rn (aLk T2 σ) g) ls st h k s := Rn.go mo2 rfl g ls st h k s
theorem r2_18 (σ : Nat → Value) (g : aG) (ls st : List Value) (h : aH) (k s : Nat) : Rn (aLk T2 σ) g 18 ls st h k s = (i_op (o_int 858993459) 21) g (Rn (aLk T2 σ) g) ls st h k s := Rn.go mo2 rfl g ls st h k s
theorem r2_21 (σ : Nat → Value) (g : aG) (ls st : List Value) (h : aH) (k s : Nat) : Rn (aLk T2 σ) g 21 ls st h k s = (i_op o_iand 22) g (Rn (aLk T2 σ) g) ls st h k s := Rn.go mo2 rfl g ls st h k s
theorem r2_22 (σ : Nat → Value) (g : aG) (ls st : List Value) (h : aH) (k s : Nat) : Rn (aLk T2 σ) g 22 ls st h k s = (i_op o_iadd 23) g (Rn (aLk T2 σ) g) ls st h k s := Rn.go mo2 rfl g ls st h k s
theorem r2_23 (σ : Nat → Value) (g : aG) (ls st : List Value) (h : aH) (k s : Nat) : Rn (aLk T2 σ) g 23 ls st h k s = (i_istore 0 24) g (Rn (aLk T2 σ) g) ls st h k s := Rn.go mo2 rfl g ls st h k s
theorem r2_24 (σ : Nat → Value) (g : aG) (ls st : List Value) (h : aH) (k s : Nat) : Rn (aLk T2 σ) g 24 ls st h k s = (i_iload 0 25) g (Rn (aLk T2 σ) g) ls st h k s := Rn.go mo2 rfl g ls st h k s
theorem r2_25 (σ : Nat → Value) (g : aG) (ls st : List Value) (h : aH) (k s : Nat) : Rn (aLk T2 σ) g 25 ls st h k s = (i_iload 0 26) g (Rn (aLk T2 σ) g) ls st h k s := Rn.go mo2 rfl g ls st h k s
theorem r2_26 (σ : Nat → Value) (g : aG) (ls st : List Value) (h : aH) (k s : Nat) : Rn (aLk T2 σ) g 26 ls st h k s = (i_op (o_int 4) 27) g (Rn (aLk T2 σ) g) ls st h k s := Rn.go mo2 rfl g ls st h k s
theorem r2_27 (σ : Nat → Value) (g : aG) (ls st : List Value) (h : aH) (k s : Nat) : Rn (aLk T2 σ) g 27 ls st h k s = (i_op o_iushr 28) g (Rn (aLk T2 σ) g) ls st h k s := Rn.go mo2 rfl g ls st h k s
theorem r2_28 (σ : Nat → Value) (g : aG) (ls st : List Value) (h : aH) (k s : Nat) : Rn (aLk T2 σ) g 28 ls st h k s = (i_op o_iadd 29) g (Rn (aLk T2 σ) g) ls st h k s := Rn.go mo2 rfl g ls st h k s
theorem r2_29 (σ : Nat → Value) (g : aG) (ls st : List Value) (h : aH) (k s : Nat) : Rn (aLk T2 σ) g 29 ls st h k s = (i_op (o_int 252645135) 32) g (Rn (aLk T2 σ) g) ls st h k s := Rn.go mo2 rfl g ls st h k s
theorem r2_32 (σ : Nat → Value) (g : aG) (ls st : List Value) (h : aH) (k s : Nat) : Rn (aLk T2 σ) g 32 ls st h k s = (i_op o_iand 33) g (Rn (aLk T2 σ) g) ls st h k s := Rn.go mo2 rfl g ls st h k s
theorem r2_33 (σ : Nat → Value) (g : aG) (ls st : List Value) (h : aH) (k s : Nat) : Rn (aLk T2 σ) g 33 ls st h k s = (i_istore 0 34) g (Rn (aLk T2 σ) g) ls st h k s := Rn.go mo2 rfl g ls st h k s
theorem r2_34 (σ : Nat → Value) (g : aG) (ls st : List Value) (h : aH) (k s : Nat) : Rn (aLk T2 σ) g 34 ls st h k s = (i_iload 0 35) g (Rn (aLk T2 σ) g) ls st h k s := Rn.go mo2 rfl g ls st h k s
theorem r2_35 (σ : Nat → Value) (g : aG) (ls st : List Value) (h : aH) (k s : Nat) : Rn (aLk T2 σ) g 35 ls st h k s = (i_iload 0 36) g (Rn (aLk T2 σ) g) ls st h k s := Rn.go mo2 rfl g ls st h k s
theorem r2_36 (σ : Nat → Value) (g : aG) (ls st : List Value) (h : aH) (k s : Nat) : Rn (aLk T2 σ) g 36 ls st h k s = (i_op (o_int 8) 38) g (Rn (aLk T2 σ) g) ls st h k s := Rn.go mo2 rfl g ls st h k s
theorem r2_38 (σ : Nat → Value) (g : aG) (ls st : List Value) (h : aH) (k s : Nat) : Rn (aLk T2 σ) g 38 ls st h k s = (i_op o_iushr 39) g (Rn (aLk T2 σ) g) ls st h k s := Rn.go mo2 rfl g ls st h k s
theorem r2_39 (σ : Nat → Value) (g : aG) (ls st : List Value) (h : aH) (k s : Nat) : Rn (aLk T2 σ) g 39 ls st h k s = (i_op o_iadd 40) g (Rn (aLk T2 σ) g) ls st h k s := Rn.go mo2 rfl g ls st h k s
theorem r2_40 (σ : Nat → Value) (g : aG) (ls st : List Value) (h : aH) (k s : Nat) : Rn (aLk T2 σ) g 40 ls st h k s = (i_istore 0 41) g (Rn (aLk T2 σ) g) ls st h k s := Rn.go mo2 rfl g ls st h k s
theorem r2_41 (σ : Nat → Value) (g : aG) (ls st : List Value) (h : aH) (k s : Nat) : Rn (aLk T2 σ) g 41 ls st h k s = (i_iload 0 42) g (Rn (aLk T2 σ) g) ls st h k s := Rn.go mo2 rfl g ls st h k s
theorem r2_42 (σ : Nat → Value) (g : aG) (ls st : List Value) (h : aH) (k s : Nat) : Rn (aLk T2 σ) g 42 ls st h k s = (i_iload 0 43) g (Rn (aLk T2 σ) g) ls st h k s := Rn.go mo2 rfl g ls st h k s
theorem r2_43 (σ : Nat → Value) (g : aG) (ls st : List Value) (h : aH) (k s : Nat) : Rn (aLk T2 σ) g 43 ls st h k s = (i_op (o_int 16) 45) g (Rn (aLk T2 σ) g) ls st h k s := Rn.go mo2 rfl g ls st h k s
theorem r2_45 (σ : Nat → Value) (g : aG) (ls st : List Value) (h : aH) (k s : Nat) : Rn (aLk T2 σ) g 45 ls st h k s = (i_op o_iushr 46) g (Rn (aLk T2 σ) g) ls st h k s := Rn.go mo2 rfl g ls st h k s
theorem r2_46 (σ : Nat → Value) (g : aG) (ls st : List Value) (h : aH) (k s : Nat) : Rn (aLk T2 σ) g 46 ls st h k s = (i_op o_iadd 47) g (Rn (aLk T2 σ) g) ls st h k s := Rn.go mo2 rfl g ls st h k s
theorem r2_47 (σ : Nat → Value) (g : aG) (ls st : List Value) (h : aH) (k s : Nat) : Rn (aLk T2 σ) g 47 ls st h k s = (i_istore 0 48) g (Rn (aLk T2 σ) g) ls st h k s := Rn.go mo2 rfl g ls st h k s
theorem r2_48 (σ : Nat → Value) (g : aG) (ls st : List Value) (h : aH) (k s : Nat) : Rn (aLk T2 σ) g 48 ls st h k s = (i_iload 0 49) g (Rn (aLk T2 σ) g) ls st h k s := Rn.go mo2 rfl g ls st h k s
theorem r2_49 (σ : Nat → Value) (g : aG) (ls st : List Value) (h : aH) (k s : Nat) : Rn (aLk T2 σ) g 49 ls st h k s = (i_op (o_int 63) 51) g (Rn (aLk T2 σ) g) ls st h k s := Rn.go mo2 rfl g ls st h k s
theorem r2_51 (σ : Nat → Value) (g : aG) (ls st : List Value) (h : aH) (k s : Nat) : Rn (aLk T2 σ) g 51 ls st h k s = (i_op o_iand 52) g (Rn (aLk T2 σ) g) ls st h k s := Rn.go mo2 rfl g ls st h k s
theorem r2_52 (σ : Nat → Value) (g : aG) (ls st : List Value) (h : aH) (k s : Nat) : Rn (aLk T2 σ) g 52 ls st h k s = (i_iret .int) g (Rn (aLk T2 σ) g) ls st h k s := Rn.go mo2 rfl g ls st h k s
theorem r3_0 (σ : Nat → Value) (g : aG) (ls st : List Value) (h : aH) (k s : Nat) : Rn (aLk T3 σ) g 0 ls st h k s = (i_iload 0 1) g (Rn (aLk T3 σ) g) ls st h k s := Rn.go mo3 rfl g ls st h k s
theorem r3_1 (σ : Nat → Value) (g : aG) (ls st : List Value) (h : aH) (k s : Nat) : Rn (aLk T3 σ) g 1 ls st h k s = (i_iload 1 2) g (Rn (aLk T3 σ) g) ls st h k s := Rn.go mo3 rfl g ls st h k s
theorem r3_2 (σ : Nat → Value) (g : aG) (ls st : List Value) (h : aH) (k s : Nat) : Rn (aLk T3 σ) g 2 ls st h k s = (i_cge 9 5) g (Rn (aLk T3 σ) g) ls st h k s := Rn.go mo3 rfl g ls st h k s
theorem r3_5 (σ : Nat → Value) (g : aG) (ls st : List Value) (h : aH) (k s : Nat) : Rn (aLk T3 σ) g 5 ls st h k s = (i_op (o_int (-1)) 6) g (Rn (aLk T3 σ) g) ls st h k s := Rn.go mo3 rfl g ls st h k s
theorem r3_6 (σ : Nat → Value) (g : aG) (ls st : List Value) (h : aH) (k s : Nat) : Rn (aLk T3 σ) g 6 ls st h k s = (i_goto 19) g (Rn (aLk T3 σ) g) ls st h k s := Rn.go mo3 rfl g ls st h k s
theorem r3_9 (σ : Nat → Value) (g : aG) (ls st : List Value) (h : aH) (k s : Nat) : Rn (aLk T3 σ) g 9 ls st h k s = (i_iload 0 10) g (Rn (aLk T3 σ) g) ls st h k s := Rn.go mo3 rfl g ls st h k s
theorem r3_10 (σ : Nat → Value) (g : aG) (ls st : List Value) (h : aH) (k s : Nat) : Rn (aLk T3 σ) g 10 ls st h k s = (i_iload 1 11) g (Rn (aLk T3 σ) g) ls st h k s := Rn.go mo3 rfl g ls st h k s
theorem r3_11 (σ : Nat → Value) (g : aG) (ls st : List Value) (h : aH) (k s : Nat) : Rn (aLk T3 σ) g 11 ls st h k s = (i_cne 18 14) g (Rn (aLk T3 σ) g) ls st h k s := Rn.go mo3 rfl g ls st h k s
theorem r3_14 (σ : Nat → Value) (g : aG) (ls st : List Value) (h : aH) (k s : Nat) : Rn (aLk T3 σ) g 14 ls st h k s = (i_op (o_int 0) 15) g (Rn (aLk T3 σ) g) ls st h k s := Rn.go mo3 rfl g ls st h k s
theorem r3_15 (σ : Nat → Value) (g : aG) (ls st : List Value) (h : aH) (k s : Nat) : Rn (aLk T3 σ) g 15 ls st h k s = (i_goto 19) g (Rn (aLk T3 σ) g) ls st h k s := Rn.go mo3 rfl g ls st h k s
theorem r3_18 (σ : Nat → Value) (g : aG) (ls st : List Value) (h : aH) (k s : Nat) : Rn (aLk T3 σ) g 18 ls st h k s = (i_op (o_int 1) 19) g (Rn (aLk T3 σ) g) ls st h k s := Rn.go mo3 rfl g ls st h k s
theorem r3_19 (σ : Nat → Value) (g : aG) (ls st : List Value) (h : aH) (k s : Nat) : Rn (aLk T3 σ) g 19 ls st h k s = (i_iret .int) g (Rn (aLk T3 σ) g) ls st h k s := Rn.go mo3 rfl g ls st h k s
theorem r4_0 (σ : Nat → Value) (g : aG) (ls st : List Value) (h : aH) (k s : Nat) : Rn (aLk T4 σ) g 0 ls st h k s = (i_aload 1 1) g (Rn (aLk T4 σ) g) ls st h k s := Rn.go mo4 rfl g ls st h k s
theorem r4_1 (σ : Nat → Value) (g : aG) (ls st : List Value) (h : aH) (k s : Nat) : Rn (aLk T4 σ) g 1 ls st h k s = (i_inst [3, 1003] [] 4) g (Rn (aLk T4 σ) g) ls st h k s := Rn.go mo4 rfl g ls st h k s
theorem r4_4 (σ : Nat → Value) (g : aG) (ls st : List Value) (h : aH) (k s : Nat) : Rn (aLk T4 σ) g 4 ls st h k s = (i_ifeq 27 7) g (Rn (aLk T4 σ) g) ls st h k s := Rn.go mo4 rfl g ls st h k s
theorem r4_7 (σ : Nat → Value) (g : aG) (ls st : List Value) (h : aH) (k s : Nat) : Rn (aLk T4 σ) g 7 ls st h k s = (i_aload 0 8) g (Rn (aLk T4 σ) g) ls st h k s := Rn.go mo4 rfl g ls st h k s
theorem r4_8 (σ : Nat → Value) (g : aG) (ls st : List Value) (h : aH) (k s : Nat) : Rn (aLk T4 σ) g 8 ls st h k s = (i_getf 3 0 11) g (Rn (aLk T4 σ) g) ls st h k s := Rn.go mo4 rfl g ls st h k s
theorem r4_11 (σ : Nat → Value) (g : aG) (ls st : List Value) (h : aH) (k s : Nat) : Rn (aLk T4 σ) g 11 ls st h k s = (i_aload 1 12) g (Rn (aLk T4 σ) g) ls st h k s := Rn.go mo4 rfl g ls st h k s
theorem r4_12 (σ : Nat → Value) (g : aG) (ls st : List Value) (h : aH) (k s : Nat) : Rn (aLk T4 σ) g 12 ls st h k s = (i_cast [3, 1003] [] 15) g (Rn (aLk T4 σ) g) ls st h k s := Rn.go mo4 rfl g ls st h k s
theorem r4_15 (σ : Nat → Value) (g : aG) (ls st : List Value) (h : aH) (k s : Nat) : Rn (aLk T4 σ) g 15 ls st h k s = (i_callV [(3, 5), (1003, 5)] 0 [] 18) g (Rn (aLk T4 σ) g) ls st h k s := Rn.go mo4 rfl g ls st h k s
theorem r4_18 (σ : Nat → Value) (g : aG) (ls st : List Value) (h : aH) (k s : Nat) : Rn (aLk T4 σ) g 18 ls st h k s = (i_cne 25 21) g (Rn (aLk T4 σ) g) ls st h k s := Rn.go mo4 rfl g ls st h k s
theorem r4_21 (σ : Nat → Value) (g : aG) (ls st : List Value) (h : aH) (k s : Nat) : Rn (aLk T4 σ) g 21 ls st h k s = (i_op (o_int 1) 22) g (Rn (aLk T4 σ) g) ls st h k s := Rn.go mo4 rfl g ls st h k s
theorem r4_22 (σ : Nat → Value) (g : aG) (ls st : List Value) (h : aH) (k s : Nat) : Rn (aLk T4 σ) g 22 ls st h k s = (i_goto 26) g (Rn (aLk T4 σ) g) ls st h k s := Rn.go mo4 rfl g ls st h k s
theorem r4_25 (σ : Nat → Value) (g : aG) (ls st : List Value) (h : aH) (k s : Nat) : Rn (aLk T4 σ) g 25 ls st h k s = (i_op (o_int 0) 26) g (Rn (aLk T4 σ) g) ls st h k s := Rn.go mo4 rfl g ls st h k s
theorem r4_26 (σ : Nat → Value) (g : aG) (ls st : List Value) (h : aH) (k s : Nat) : Rn (aLk T4 σ) g 26 ls st h k s = (i_iret .boolean) g (Rn (aLk T4 σ) g) ls st h k s := Rn.go mo4 rfl g ls st h k s
theorem r4_27 (σ : Nat → Value) (g : aG) (ls st : List Value) (h : aH) (k s : Nat) : Rn (aLk T4 σ) g 27 ls st h k s = (i_op (o_int 0) 28) g (Rn (aLk T4 σ) g) ls st h k s := Rn.go mo4 rfl g ls st h k s
theorem r4_28 (σ : Nat → Value) (g : aG) (ls st : List Value) (h : aH) (k s : Nat) : Rn (aLk T4 σ) g 28 ls st h k s = (i_iret .boolean) g (Rn (aLk T4 σ) g) ls st h k s := Rn.go mo4 rfl g ls st h k s
theorem r5_0 (σ : Nat → Value) (g : aG) (ls st : List Value) (h : aH) (k s : Nat) : Rn (aLk T5 σ) g 0 ls st h k s = (i_aload 0 1) g (Rn (aLk T5 σ) g) ls st h k s := Rn.go mo5 rfl g ls st h k s
theorem r5_1 (σ : Nat → Value) (g : aG) (ls st : List Value) (h : aH) (k s : Nat) : Rn (aLk T5 σ) g 1 ls st h k s = (i_getf 3 0 4) g (Rn (aLk T5 σ) g) ls st h k s := Rn.go mo5 rfl g ls st h k s
theorem r5_4 (σ : Nat → Value) (g : aG) (ls st : List Value) (h : aH) (k s : Nat) : Rn (aLk T5 σ) g 4 ls st h k s = (i_iret .int) g (Rn (aLk T5 σ) g) ls st h k s := Rn.go mo5 rfl g ls st h k s
theorem r6_0 (σ : Nat → Value) (g : aG) (ls st : List Value) (h : aH) (k s : Nat) : Rn (aLk T6 σ) g 0 ls st h k s = (i_iload 0 1) g (Rn (aLk T6 σ) g) ls st h k s := Rn.go mo6 rfl g ls st h k s
theorem r6_1 (σ : Nat → Value) (g : aG) (ls st : List Value) (h : aH) (k s : Nat) : Rn (aLk T6 σ) g 1 ls st h k s = (i_ifgt 15 4) g (Rn (aLk T6 σ) g) ls st h k s := Rn.go mo6 rfl g ls st h k s
theorem r6_4 (σ : Nat → Value) (g : aG) (ls st : List Value) (h : aH) (k s : Nat) : Rn (aLk T6 σ) g 4 ls st h k s = (i_iload 0 5) g (Rn (aLk T6 σ) g) ls st h k s := Rn.go mo6 rfl g ls st h k s
theorem r6_5 (σ : Nat → Value) (g : aG) (ls st : List Value) (h : aH) (k s : Nat) : Rn (aLk T6 σ) g 5 ls st h k s = (i_ifne 13 8) g (Rn (aLk T6 σ) g) ls st h k s := Rn.go mo6 rfl g ls st h k s
theorem r6_8 (σ : Nat → Value) (g : aG) (ls st : List Value) (h : aH) (k s : Nat) : Rn (aLk T6 σ) g 8 ls st h k s = (i_op (o_int 32) 10) g (Rn (aLk T6 σ) g) ls st h k s := Rn.go mo6 rfl g ls st h k s
theorem r6_10 (σ : Nat → Value) (g : aG) (ls st : List Value) (h : aH) (k s : Nat) : Rn (aLk T6 σ) g 10 ls st h k s = (i_goto 14) g (Rn (aLk T6 σ) g) ls st h k s := Rn.go mo6 rfl g ls st h k s
theorem r6_13 (σ : Nat → Value) (g : aG) (ls st : List Value) (h : aH) (k s : Nat) : Rn (aLk T6 σ) g 13 ls st h k s = (i_op (o_int 0) 14) g (Rn (aLk T6 σ) g) ls st h k s := Rn.go mo6 rfl g ls st h k s
theorem r6_14 (σ : Nat → Value) (g : aG) (ls st : List Value) (h : aH) (k s : Nat) : Rn (aLk T6 σ) g 14 ls st h k s = (i_iret .int) g (Rn (aLk T6 σ) g) ls st h k s := Rn.go mo6 rfl g ls st h k s
theorem r6_15 (σ : Nat → Value) (g : aG) (ls st : List Value) (h : aH) (k s : Nat) : Rn (aLk T6 σ) g 15 ls st h k s = (i_op (o_int 31) 17) g (Rn (aLk T6 σ) g) ls st h k s := Rn.go mo6 rfl g ls st h k s
theorem r6_17 (σ : Nat → Value) (g : aG) (ls st : List Value) (h : aH) (k s : Nat) : Rn (aLk T6 σ) g 17 ls st h k s = (i_istore 1 18) g (Rn (aLk T6 σ) g) ls st h k s := Rn.go mo6 rfl g ls st h k s
theorem r6_18 (σ : Nat → Value) (g : aG) (ls st : List Value) (h : aH) (k s : Nat) : Rn (aLk T6 σ) g 18 ls st h k s = (i_iload 0 19) g (Rn (aLk T6 σ) g) ls st h k s := Rn.go mo6 rfl g ls st h k s
theorem r6_19 (σ : Nat → Value) (g : aG) (ls st : List Value) (h : aH) (k s : Nat) : Rn (aLk T6 σ) g 19 ls st h k s = (i_op (o_int 65536) 22) g (Rn (aLk T6 σ) g) ls st h k s := Rn.go mo6 rfl g ls st h k s
theorem r6_22 (σ : Nat → Value) (g : aG) (ls st : List Value) (h : aH) (k s : Nat) : Rn (aLk T6 σ) g 22 ls st h k s = (i_clt 33 25) g (Rn (aLk T6 σ) g) ls st h k s := Rn.go mo6 rfl g ls st h k s
theorem r6_25 (σ : Nat → Value) (g : aG) (ls st : List Value) (h : aH) (k s : Nat) : Rn (aLk T6 σ) g 25 ls st h k s = (i_iinc 1 (-16) 28) g (Rn (aLk T6 σ) g) ls st h k s := Rn.go mo6 rfl g ls st h k s
theorem r6_28 (σ : Nat → Value) (g : aG) (ls st : List Value) (h : aH) (k s : Nat) : Rn (aLk T6 σ) g 28 ls st h k s = (i_iload 0 29) g (Rn (aLk T6 σ) g) ls st h k s := Rn.go mo6 rfl g ls st h k s
theorem r6_29 (σ : Nat → Value) (g : aG) (ls st : List Value) (h : aH) (k s : Nat) : Rn (aLk T6 σ) g 29 ls st h k s = (i_op (o_int 16) 31) g (Rn (aLk T6 σ) g) ls st h k s := Rn.go mo6 rfl g ls st h k s
theorem r6_31 (σ : Nat → Value) (g : aG) (ls st : List Value) (h : aH) (k s : Nat) : Rn (aLk T6 σ) g 31 ls st h k s = (i_op o_iushr 32) g (Rn (aLk T6 σ) g) ls st h k s := Rn.go mo6 rfl g ls st h k s
theorem r6_32 (σ : Nat → Value) (g : aG) (ls st : List Value) (h : aH) (k s : Nat) : Rn (aLk T6 σ) g 32 ls st h k s = (i_istore 0 33) g (Rn (aLk T6 σ) g) ls st h k s := Rn.go mo6 rfl g ls st h k s
theorem r6_33 (σ : Nat → Value) (g : aG) (ls st : List Value) (h : aH) (k s : Nat) : Rn (aLk T6 σ) g 33 ls st h k s = (i_iload 0 34) g (Rn (aLk T6 σ) g) ls st h k s := Rn.go mo6 rfl g ls st h k s
theorem r6_34 (σ : Nat → Value) (g : aG) (ls st : List Value) (h : aH) (k s : Nat) : Rn (aLk T6 σ) g 34 ls st h k s = (i_op (o_int 256) 37) g (Rn (aLk T6 σ) g) ls st h k s := Rn.go mo6 rfl g ls st h k s
theorem r6_37 (σ : Nat → Value) (g : aG) (ls st : List Value) (h : aH) (k s : Nat) : Rn (aLk T6 σ) g 37 ls st h k s = (i_clt 48 40) g (Rn (aLk T6 σ) g) ls st h k s := Rn.go mo6 rfl g ls st h k s
theorem r6_40 (σ : Nat → Value) (g : aG) (ls st : List Value) (h : aH) (k s : Nat) : Rn (aLk T6 σ) g 40 ls st h k s = (i_iinc 1 (-8) 43) g (Rn (aLk T6 σ) g) ls st h k s := Rn.go mo6 rfl g ls st h k s
theorem r6_43 (σ : Nat → Value) (g : aG) (ls st : List Value) (h : aH) (k s : Nat) : Rn (aLk T6 σ) g 43 ls st h k s = (i_iload 0 44) g (Rn (aLk T6 σ) g) ls st h k s := Rn.go mo6 rfl g ls st h k s
theorem r6_44 (σ : Nat → Value) (g : aG) (ls st : List Value) (h : aH) (k s : Nat) : Rn (aLk T6 σ) g 44 ls st h k s = (i_op (o_int 8) 46) g (Rn (aLk T6 σ) g) ls st h k s := Rn.go mo6 rfl g ls st h k s
theorem r6_46 (σ : Nat → Value) (g : aG) (ls st : List Value) (h : aH) (k s : Nat) : Rn (aLk T6 σ) g 46 ls st h k s = (i_op o_iushr 47) g (Rn (aLk T6 σ) g) ls st h k s := Rn.go mo6 rfl g ls st h k s
theorem r6_47 (σ : Nat → Value) (g : aG) (ls st : List Value) (h : aH) (k s : Nat) : Rn (aLk T6 σ) g 47 ls st h k s = (i_istore 0 48) g (Rn (aLk T6 σ) g) ls st h k s := Rn.go mo6 rfl g ls st h k s
theorem r6_48 (σ : Nat → Value) (g : aG) (ls st : List Value) (h : aH) (k s : Nat) : Rn (aLk T6 σ) g 48 ls st h k s = (i_iload 0 49) g (Rn (aLk T6 σ) g) ls st h k s := Rn.go mo6 rfl g ls st h k s
theorem r6_49 (σ : Nat → Value) (g : aG) (ls st : List Value) (h : aH) (k s : Nat) : Rn (aLk T6 σ) g 49 ls st h k s = (i_op (o_int 16) 51) g (Rn (aLk T6 σ) g) ls st h k s := Rn.go mo6 rfl g ls st h k s
theorem r6_51 (σ : Nat → Value) (g : aG) (ls st : List Value) (h : aH) (k s : Nat) : Rn (aLk T6 σ) g 51 ls st h k s = (i_clt 61 54) g (Rn (aLk T6 σ) g) ls st h k s := Rn.go mo6 rfl g ls st h k s
theorem r6_54 (σ : Nat → Value) (g : aG) (ls st : List Value) (h : aH) (k s : Nat) : Rn (aLk T6 σ) g 54 ls st h k s = (i_iinc 1 (-4) 57) g (Rn (aLk T6 σ) g) ls st h k s := Rn.go mo6 rfl g ls st h k s
theorem r6_57 (σ : Nat → Value) (g : aG) (ls st : List Value) (h : aH) (k s : Nat) : Rn (aLk T6 σ) g 57 ls st h k s = (i_iload 0 58) g (Rn (aLk T6 σ) g) ls st h k s := Rn.go mo6 rfl g ls st h k s
theorem r6_58 (σ : Nat → Value) (g : aG) (ls st : List Value) (h : aH) (k s : Nat) : Rn (aLk T6 σ) g 58 ls st h k s = (i_op (o_int 4) 59) g (Rn (aLk T6 σ) g) ls st h k s := Rn.go mo6 rfl g ls st h k s
theorem r6_59 (σ : Nat → Value) (g : aG) (ls st : List Value) (h : aH) (k s : Nat) : Rn (aLk T6 σ) g 59 ls st h k s = (i_op o_iushr 60) g (Rn (aLk T6 σ) g) ls st h k s := Rn.go mo6 rfl g ls st h k s
theorem r6_60 (σ : Nat → Value) (g : aG) (ls st : List Value) (h : aH) (k s : Nat) : Rn (aLk T6 σ) g 60 ls st h k s = (i_istore 0 61) g (Rn (aLk T6 σ) g) ls st h k s := Rn.go mo6 rfl g ls st h k s
theorem r6_61 (σ : Nat → Value) (g : aG) (ls st : List Value) (h : aH) (k s : Nat) : Rn (aLk T6 σ) g 61 ls st h k s = (i_iload 0 62) g (Rn (aLk T6 σ) g) ls st h k s := Rn.go mo6 rfl g ls st h k s
theorem r6_62 (σ : Nat → Value) (g : aG) (ls st : List Value) (h : aH) (k s : Nat) : Rn (aLk T6 σ) g 62 ls st h k s = (i_op (o_int 4) 63) g (Rn (aLk T6 σ) g) ls st h k s := Rn.go mo6 rfl g ls st h k s
theorem r6_63 (σ : Nat → Value) (g : aG) (ls st : List Value) (h : aH) (k s : Nat) : Rn (aLk T6 σ) g 63 ls st h k s = (i_clt 73 66) g (Rn (aLk T6 σ) g) ls st h k s := Rn.go mo6 rfl g ls st h k s
theorem r6_66 (σ : Nat → Value) (g : aG) (ls st : List Value) (h : aH) (k s : Nat) : Rn (aLk T6 σ) g 66 ls st h k s = (i_iinc 1 (-2) 69) g (Rn (aLk T6 σ) g) ls st h k s := Rn.go mo6 rfl g ls st h k s
theorem r6_69 (σ : Nat → Value) (g : aG) (ls st : List Value) (h : aH) (k s : Nat) : Rn (aLk T6 σ) g 69 ls st h k s = (i_iload 0 70) g (Rn (aLk T6 σ) g) ls st h k s := Rn.go mo6 rfl g ls st h k s
theorem r6_70 (σ : Nat → Value) (g : aG) (ls st : List Value) (h : aH) (k s : Nat) : Rn (aLk T6 σ) g 70 ls st h k s = (i_op (o_int 2) 71) g (Rn (aLk T6 σ) g) ls st h k s := Rn.go mo6 rfl g ls st h k s
theorem r6_71 (σ : Nat → Value) (g : aG) (ls st : List Value) (h : aH) (k s : Nat) : Rn (aLk T6 σ) g 71 ls st h k s = (i_op o_iushr 72) g (Rn (aLk T6 σ) g) ls st h k s := Rn.go mo6 rfl g ls st h k s
theorem r6_72 (σ : Nat → Value) (g : aG) (ls st : List Value) (h : aH) (k s : Nat) : Rn (aLk T6 σ) g 72 ls st h k s = (i_istore 0 73) g (Rn (aLk T6 σ) g) ls st h k s := Rn.go mo6 rfl g ls st h k s
theorem r6_73 (σ : Nat → Value) (g : aG) (ls st : List Value) (h : aH) (k s : Nat) : Rn (aLk T6 σ) g 73 ls st h k s = (i_iload 1 74) g (Rn (aLk T6 σ) g) ls st h k s := Rn.go mo6 rfl g ls st h k s
theorem r6_74 (σ : Nat → Value) (g : aG) (ls st : List Value) (h : aH) (k s : Nat) : Rn (aLk T6 σ) g 74 ls st h k s = (i_iload 0 75) g (Rn (aLk T6 σ) g) ls st h k s := Rn.go mo6 rfl g ls st h k s
theorem r6_75 (σ : Nat → Value) (g : aG) (ls st : List Value) (h : aH) (k s : Nat) : Rn (aLk T6 σ) g 75 ls st h k s = (i_op (o_int 1) 76) g (Rn (aLk T6 σ) g) ls st h k s := Rn.go mo6 rfl g ls st h k s
theorem r6_76 (σ : Nat → Value) (g : aG) (ls st : List Value) (h : aH) (k s : Nat) : Rn (aLk T6 σ) g 76 ls st h k s = (i_op o_iushr 77) g (Rn (aLk T6 σ) g) ls st h k s := Rn.go mo6 rfl g ls st h k s
theorem r6_77 (σ : Nat → Value) (g : aG) (ls st : List Value) (h : aH) (k s : Nat) : Rn (aLk T6 σ) g 77 ls st h k s = (i_op o_isub 78) g (Rn (aLk T6 σ) g) ls st h k s := Rn.go mo6 rfl g ls st h k s
theorem r6_78 (σ : Nat → Value) (g : aG) (ls st : List Value) (h : aH) (k s : Nat) : Rn (aLk T6 σ) g 78 ls st h k s = (i_iret .int) g (Rn (aLk T6 σ) g) ls st h k s := Rn.go mo6 rfl g ls st h k s
theorem r7_0 (σ : Nat → Value) (g : aG) (ls st : List Value) (h : aH) (k s : Nat) : Rn (aLk T7 σ) g 0 ls st h k s = (i_iload 0 1) g (Rn (aLk T7 σ) g) ls st h k s := Rn.go mo7 rfl g ls st h k s
theorem r7_1 (σ : Nat → Value) (g : aG) (ls st : List Value) (h : aH) (k s : Nat) : Rn (aLk T7 σ) g 1 ls st h k s = (i_op (o_int (-1)) 2) g (Rn (aLk T7 σ) g) ls st h k s := Rn.go mo7 rfl g ls st h k s
theorem r7_2 (σ : Nat → Value) (g : aG) (ls st : List Value) (h : aH) (k s : Nat) : Rn (aLk T7 σ) g 2 ls st h k s = (i_op o_ixor 3) g (Rn (aLk T7 σ) g) ls st h k s := Rn.go mo7 rfl g ls st h k s
theorem r7_3 (σ : Nat → Value) (g : aG) (ls st : List Value) (h : aH) (k s : Nat) : Rn (aLk T7 σ) g 3 ls st h k s = (i_iload 0 4) g (Rn (aLk T7 σ) g) ls st h k s := Rn.go mo7 rfl g ls st h k s
theorem r7_4 (σ : Nat → Value) (g : aG) (ls st : List Value) (h : aH) (k s : Nat) : Rn (aLk T7 σ) g 4 ls st h k s = (i_op (o_int 1) 5) g (Rn (aLk T7 σ) g) ls st h k s := Rn.go mo7 rfl g ls st h k s
theorem r7_5 (σ : Nat → Value) (g : aG) (ls st : List Value) (h : aH) (k s : Nat) : Rn (aLk T7 σ) g 5 ls st h k s = (i_op o_isub 6) g (Rn (aLk T7 σ) g) ls st h k s := Rn.go mo7 rfl g ls st h k s
theorem r7_6 (σ : Nat → Value) (g : aG) (ls st : List Value) (h : aH) (k s : Nat) : Rn (aLk T7 σ) g 6 ls st h k s = (i_op o_iand 7) g (Rn (aLk T7 σ) g) ls st h k s := Rn.go mo7 rfl g ls st h k s
theorem r7_7 (σ : Nat → Value) (g : aG) (ls st : List Value) (h : aH) (k s : Nat) : Rn (aLk T7 σ) g 7 ls st h k s = (i_istore 0 8) g (Rn (aLk T7 σ) g) ls st h k s := Rn.go mo7 rfl g ls st h k s
theorem r7_8 (σ : Nat → Value) (g : aG) (ls st : List Value) (h : aH) (k s : Nat) : Rn (aLk T7 σ) g 8 ls st h k s = (i_iload 0 9) g (Rn (aLk T7 σ) g) ls st h k s := Rn.go mo7 rfl g ls st h k s
theorem r7_9 (σ : Nat → Value) (g : aG) (ls st : List Value) (h : aH) (k s : Nat) : Rn (aLk T7 σ) g 9 ls st h k s = (i_ifgt 17 12) g (Rn (aLk T7 σ) g) ls st h k s := Rn.go mo7 rfl g ls st h k s
theorem r7_12 (σ : Nat → Value) (g : aG) (ls st : List Value) (h : aH) (k s : Nat) : Rn (aLk T7 σ) g 12 ls st h k s = (i_iload 0 13) g (Rn (aLk T7 σ) g) ls st h k s := Rn.go mo7 rfl g ls st h k s
theorem r7_13 (σ : Nat → Value) (g : aG) (ls st : List Value) (h : aH) (k s : Nat) : Rn (aLk T7 σ) g 13 ls st h k s = (i_op (o_int 32) 15) g (Rn (aLk T7 σ) g) ls st h k s := Rn.go mo7 rfl g ls st h k s
theorem r7_15 (σ : Nat → Value) (g : aG) (ls st : List Value) (h : aH) (k s : Nat) : Rn (aLk T7 σ) g 15 ls st h k s = (i_op o_iand 16) g (Rn (aLk T7 σ) g) ls st h k s := Rn.go mo7 rfl g ls st h k s
theorem r7_16 (σ : Nat → Value) (g : aG) (ls st : List Value) (h : aH) (k s : Nat) : Rn (aLk T7 σ) g 16 ls st h k s = (i_iret .int) g (Rn (aLk T7 σ) g) ls st h k s := Rn.go mo7 rfl g ls st h k s
theorem r7_17 (σ : Nat → Value) (g : aG) (ls st : List Value) (h : aH) (k s : Nat) : Rn (aLk T7 σ) g 17 ls st h k s = (i_op (o_int 1) 18) g (Rn (aLk T7 σ) g) ls st h k s := Rn.go mo7 rfl g ls st h k s
theorem r7_18 (σ : Nat → Value) (g : aG) (ls st : List Value) (h : aH) (k s : Nat) : Rn (aLk T7 σ) g 18 ls st h k s = (i_istore 1 19) g (Rn (aLk T7 σ) g) ls st h k s := Rn.go mo7 rfl g ls st h k s
theorem r7_19 (σ : Nat → Value) (g : aG) (ls st : List Value) (h : aH) (k s : Nat) : Rn (aLk T7 σ) g 19 ls st h k s = (i_iload 0 20) g (Rn (aLk T7 σ) g) ls st h k s := Rn.go mo7 rfl g ls st h k s
theorem r7_20 (σ : Nat → Value) (g : aG) (ls st : List Value) (h : aH) (k s : Nat) : Rn (aLk T7 σ) g 20 ls st h k s = (i_op (o_int 65536) 23) g (Rn (aLk T7 σ) g) ls st h k s := Rn.go mo7 rfl g ls st h k s
theorem r7_23 (σ : Nat → Value) (g : aG) (ls st : List Value) (h : aH) (k s : Nat) : Rn (aLk T7 σ) g 23 ls st h k s = (i_cle 34 26) g (Rn (aLk T7 σ) g) ls st h k s := Rn.go mo7 rfl g ls st h k s
theorem r7_26 (σ : Nat → Value) (g : aG) (ls st : List Value) (h : aH) (k s : Nat) : Rn (aLk T7 σ) g 26 ls st h k s = (i_iinc 1 16 29) g (Rn (aLk T7 σ) g) ls st h k s := Rn.go mo7 rfl g ls st h k s
theorem r7_29 (σ : Nat → Value) (g : aG) (ls st : List Value) (h : aH) (k s : Nat) : Rn (aLk T7 σ) g 29 ls st h k s = (i_iload 0 30) g (Rn (aLk T7 σ) g) ls st h k s := Rn.go mo7 rfl g ls st h k s
theorem r7_30 (σ : Nat → Value) (g : aG) (ls st : List Value) (h : aH) (k s : Nat) : Rn (aLk T7 σ) g 30 ls st h k s = (i_op (o_int 16) 32) g (Rn (aLk T7 σ) g) ls st h k s := Rn.go mo7 rfl g ls st h k s
theorem r7_32 (σ : Nat → Value) (g : aG) (ls st : List Value) (h : aH) (k s : Nat) : Rn (aLk T7 σ) g 32 ls st h k s = (i_op o_iushr 33) g (Rn (aLk T7 σ) g) ls st h k s := Rn.go mo7 rfl g ls st h k s
theorem r7_33 (σ : Nat → Value) (g : aG) (ls st : List Value) (h : aH) (k s : Nat) : Rn (aLk T7 σ) g 33 ls st h k s = (i_istore 0 34) g (Rn (aLk T7 σ) g) ls st h k s := Rn.go mo7 rfl g ls st h k s
theorem r7_34 (σ : Nat → Value) (g : aG) (ls st : List Value) (h : aH) (k s : Nat) : Rn (aLk T7 σ) g 34 ls st h k s = (i_iload 0 35) g (Rn (aLk T7 σ) g) ls st h k s := Rn.go mo7 rfl g ls st h k s
theorem r7_35 (σ : Nat → Value) (g : aG) (ls st : List Value) (h : aH) (k s : Nat) : Rn (aLk T7 σ) g 35 ls st h k s = (i_op (o_int 256) 38) g (Rn (aLk T7 σ) g) ls st h k s := Rn.go mo7 rfl g ls st h k s
theorem r7_38 (σ : Nat → Value) (g : aG) (ls st : List Value) (h : aH) (k s : Nat) : Rn (aLk T7 σ) g 38 ls st h k s = (i_cle 49 41) g (Rn (aLk T7 σ) g) ls st h k s := Rn.go mo7 rfl g ls st h k s
theorem r7_41 (σ : Nat → Value) (g : aG) (ls st : List Value) (h : aH) (k s : Nat) : Rn (aLk T7 σ) g 41 ls st h k s = (i_iinc 1 8 44) g (Rn (aLk T7 σ) g) ls st h k s := Rn.go mo7 rfl g ls st h k s
theorem r7_44 (σ : Nat → Value) (g : aG) (ls st : List Value) (h : aH) (k s : Nat) : Rn (aLk T7 σ) g 44 ls st h k s = (i_iload 0 45) g (Rn (aLk T7 σ) g) ls st h k s := Rn.go mo7 rfl g ls st h k s
theorem r7_45 (σ : Nat → Value) (g : aG) (ls st : List Value) (h : aH) (k s : Nat) : Rn (aLk T7 σ) g 45 ls st h k s = (i_op (o_int 8) 47) g (Rn (aLk T7 σ) g) ls st h k s := Rn.go mo7 rfl g ls st h k s
theorem r7_47 (σ : Nat → Value) (g : aG) (ls st : List Value) (h : aH) (k s : Nat) : Rn (aLk T7 σ) g 47 ls st h k s = (i_op o_iushr 48) g (Rn (aLk T7 σ) g) ls st h k s := Rn.go mo7 rfl g ls st h k s
theorem r7_48 (σ : Nat → Value) (g : aG) (ls st : List Value) (h : aH) (k s : Nat) : Rn (aLk T7 σ) g 48 ls st h k s = (i_istore 0 49) g (Rn (aLk T7 σ) g) ls st h k s := Rn.go mo7 rfl g ls st h k s
theorem r7_49 (σ : Nat → Value) (g : aG) (ls st : List Value) (h : aH) (k s : Nat) : Rn (aLk T7 σ) g 49 ls st h k s = (i_iload 0 50) g (Rn (aLk T7 σ) g) ls st h k s := Rn.go mo7 rfl g ls st h k s
theorem r7_50 (σ : Nat → Value) (g : aG) (ls st : List Value) (h : aH) (k s : Nat) : Rn (aLk T7 σ) g 50 ls st h k s = (i_op (o_int 16) 52) g (Rn (aLk T7 σ) g) ls st h k s := Rn.go mo7 rfl g ls st h k s
theorem r7_52 (σ : Nat → Value) (g : aG) (ls st : List Value) (h : aH) (k s : Nat) : Rn (aLk T7 σ) g 52 ls st h k s = (i_cle 62 55) g (Rn (aLk T7 σ) g) ls st h k s := Rn.go mo7 rfl g ls st h k s
theorem r7_55 (σ : Nat → Value) (g : aG) (ls st : List Value) (h : aH) (k s : Nat) : Rn (aLk T7 σ) g 55 ls st h k s = (i_iinc 1 4 58) g (Rn (aLk T7 σ) g) ls st h k s := Rn.go mo7 rfl g ls st h k s
theorem r7_58 (σ : Nat → Value) (g : aG) (ls st : List Value) (h : aH) (k s : Nat) : Rn (aLk T7 σ) g 58 ls st h k s = (i_iload 0 59) g (Rn (aLk T7 σ) g) ls st h k s := Rn.go mo7 rfl g ls st h k s
theorem r7_59 (σ : Nat → Value) (g : aG) (ls st : List Value) (h : aH) (k s : Nat) : Rn (aLk T7 σ) g 59 ls st h k s = (i_op (o_int 4) 60) g (Rn (aLk T7 σ) g) ls st h k s := Rn.go mo7 rfl g ls st h k s
theorem r7_60 (σ : Nat → Value) (g : aG) (ls st : List Value) (h : aH) (k s : Nat) : Rn (aLk T7 σ) g 60 ls st h k s = (i_op o_iushr 61) g (Rn (aLk T7 σ) g) ls st h k s := Rn.go mo7 rfl g ls st h k s
theorem r7_61 (σ : Nat → Value) (g : aG) (ls st : List Value) (h : aH) (k s : Nat) : Rn (aLk T7 σ) g 61 ls st h k s = (i_istore 0 62) g (Rn (aLk T7 σ) g) ls st h k s := Rn.go mo7 rfl g ls st h k s
theorem r7_62 (σ : Nat → Value) (g : aG) (ls st : List Value) (h : aH) (k s : Nat) : Rn (aLk T7 σ) g 62 ls st h k s = (i_iload 0 63) g (Rn (aLk T7 σ) g) ls st h k s := Rn.go mo7 rfl g ls st h k s
theorem r7_63 (σ : Nat → Value) (g : aG) (ls st : List Value) (h : aH) (k s : Nat) : Rn (aLk T7 σ) g 63 ls st h k s = (i_op (o_int 4) 64) g (Rn (aLk T7 σ) g) ls st h k s := Rn.go mo7 rfl g ls st h k s
theorem r7_64 (σ : Nat → Value) (g : aG) (ls st : List Value) (h : aH) (k s : Nat) : Rn (aLk T7 σ) g 64 ls st h k s = (i_cle 74 67) g (Rn (aLk T7 σ) g) ls st h k s := Rn.go mo7 rfl g ls st h k s
theorem r7_67 (σ : Nat → Value) (g : aG) (ls st : List Value) (h : aH) (k s : Nat) : Rn (aLk T7 σ) g 67 ls st h k s = (i_iinc 1 2 70) g (Rn (aLk T7 σ) g) ls st h k s := Rn.go mo7 rfl g ls st h k s
theorem r7_70 (σ : Nat → Value) (g : aG) (ls st : List Value) (h : aH) (k s : Nat) : Rn (aLk T7 σ) g 70 ls st h k s = (i_iload 0 71) g (Rn (aLk T7 σ) g) ls st h k s := Rn.go mo7 rfl g ls st h k s
theorem r7_71 (σ : Nat → Value) (g : aG) (ls st : List Value) (h : aH) (k s : Nat) : Rn (aLk T7 σ) g 71 ls st h k s = (i_op (o_int 2) 72) g (Rn (aLk T7 σ) g) ls st h k s := Rn.go mo7 rfl g ls st h k s
theorem r7_72 (σ : Nat → Value) (g : aG) (ls st : List Value) (h : aH) (k s : Nat) : Rn (aLk T7 σ) g 72 ls st h k s = (i_op o_iushr 73) g (Rn (aLk T7 σ) g) ls st h k s := Rn.go mo7 rfl g ls st h k s
theorem r7_73 (σ : Nat → Value) (g : aG) (ls st : List Value) (h : aH) (k s : Nat) : Rn (aLk T7 σ) g 73 ls st h k s = (i_istore 0 74) g (Rn (aLk T7 σ) g) ls st h k s := Rn.go mo7 rfl g ls st h k s
theorem r7_74 (σ : Nat → Value) (g : aG) (ls st : List Value) (h : aH) (k s : Nat) : Rn (aLk T7 σ) g 74 ls st h k s = (i_iload 1 75) g (Rn (aLk T7 σ) g) ls st h k s := Rn.go mo7 rfl g ls st h k s
theorem r7_75 (σ : Nat → Value) (g : aG) (ls st : List Value) (h : aH) (k s : Nat) : Rn (aLk T7 σ) g 75 ls st h k s = (i_iload 0 76) g (Rn (aLk T7 σ) g) ls st h k s := Rn.go mo7 rfl g ls st h k s
theorem r7_76 (σ : Nat → Value) (g : aG) (ls st : List Value) (h : aH) (k s : Nat) : Rn (aLk T7 σ) g 76 ls st h k s = (i_op (o_int 1) 77) g (Rn (aLk T7 σ) g) ls st h k s := Rn.go mo7 rfl g ls st h k s
theorem r7_77 (σ : Nat → Value) (g : aG) (ls st : List Value) (h : aH) (k s : Nat) : Rn (aLk T7 σ) g 77 ls st h k s = (i_op o_iushr 78) g (Rn (aLk T7 σ) g) ls st h k s := Rn.go mo7 rfl g ls st h k s
theorem r7_78 (σ : Nat → Value) (g : aG) (ls st : List Value) (h : aH) (k s : Nat) : Rn (aLk T7 σ) g 78 ls st h k s = (i_op o_iadd 79) g (Rn (aLk T7 σ) g) ls st h k s := Rn.go mo7 rfl g ls st h k s
theorem r7_79 (σ : Nat → Value) (g : aG) (ls st : List Value) (h : aH) (k s : Nat) : Rn (aLk T7 σ) g 79 ls st h k s = (i_iret .int) g (Rn (aLk T7 σ) g) ls st h k s := Rn.go mo7 rfl g ls st h k s
theorem r8_0 (σ : Nat → Value) (g : aG) (ls st : List Value) (h : aH) (k s : Nat) : Rn (aLk T8 σ) g 0 ls st h k s = (i_iload 0 1) g (Rn (aLk T8 σ) g) ls st h k s := Rn.go mo8 rfl g ls st h k s
theorem r8_1 (σ : Nat → Value) (g : aG) (ls st : List Value) (h : aH) (k s : Nat) : Rn (aLk T8 σ) g 1 ls st h k s = (i_op (o_int (-128)) 3) g (Rn (aLk T8 σ) g) ls st h k s := Rn.go mo8 rfl g ls st h k s
theorem r8_3 (σ : Nat → Value) (g : aG) (ls st : List Value) (h : aH) (k s : Nat) : Rn (aLk T8 σ) g 3 ls st h k s = (i_clt 23 6) g (Rn (aLk T8 σ) g) ls st h k s := Rn.go mo8 rfl g ls st h k s
theorem r8_6 (σ : Nat → Value) (g : aG) (ls st : List Value) (h : aH) (k s : Nat) : Rn (aLk T8 σ) g 6 ls st h k s = (i_iload 0 7) g (Rn (aLk T8 σ) g) ls st h k s := Rn.go mo8 rfl g ls st h k s
theorem r8_7 (σ : Nat → Value) (g : aG) (ls st : List Value) (h : aH) (k s : Nat) : Rn (aLk T8 σ) g 7 ls st h k s = (i_push (.int 127) 10) g (Rn (aLk T8 σ) g) ls st h k s := Rn.go mo8 rfl g ls st h k s
theorem r8_10 (σ : Nat → Value) (g : aG) (ls st : List Value) (h : aH) (k s : Nat) : Rn (aLk T8 σ) g 10 ls st h k s = (i_cgt 23 13) g (Rn (aLk T8 σ) g) ls st h k s := Rn.go mo8 rfl g ls st h k s
theorem r8_13 (σ : Nat → Value) (g : aG) (ls st : List Value) (h : aH) (k s : Nat) : Rn (aLk T8 σ) g 13 ls st h k s = (i_push (σ 1) 16) g (Rn (aLk T8 σ) g) ls st h k s := Rn.go mo8 rfl g ls st h k s
theorem r8_16 (σ : Nat → Value) (g : aG) (ls st : List Value) (h : aH) (k s : Nat) : Rn (aLk T8 σ) g 16 ls st h k s = (i_iload 0 17) g (Rn (aLk T8 σ) g) ls st h k s := Rn.go mo8 rfl g ls st h k s
theorem r8_17 (σ : Nat → Value) (g : aG) (ls st : List Value) (h : aH) (k s : Nat) : Rn (aLk T8 σ) g 17 ls st h k s = (i_op (o_int 128) 20) g (Rn (aLk T8 σ) g) ls st h k s := Rn.go mo8 rfl g ls st h k s
theorem r8_20 (σ : Nat → Value) (g : aG) (ls st : List Value) (h : aH) (k s : Nat) : Rn (aLk T8 σ) g 20 ls st h k s = (i_op o_iadd 21) g (Rn (aLk T8 σ) g) ls st h k s := Rn.go mo8 rfl g ls st h k s
theorem r8_21 (σ : Nat → Value) (g : aG) (ls st : List Value) (h : aH) (k s : Nat) : Rn (aLk T8 σ) g 21 ls st h k s = (i_aald [4, 5, 6, 7, 1004, 1008, 1009] 22) g (Rn (aLk T8 σ) g) ls st h k s := Rn.go mo8 rfl g ls st h k s
theorem r8_22 (σ : Nat → Value) (g : aG) (ls st : List Value) (h : aH) (k s : Nat) : Rn (aLk T8 σ) g 22 ls st h k s = (i_aret) g (Rn (aLk T8 σ) g) ls st h k s := Rn.go mo8 rfl g ls st h k s
theorem r8_23 (σ : Nat → Value) (g : aG) (ls st : List Value) (h : aH) (k s : Nat) : Rn (aLk T8 σ) g 23 ls st h k s = (i_new 3 1 [.int 0] 26) g (Rn (aLk T8 σ) g) ls st h k s := Rn.go mo8 rfl g ls st h k s
theorem r8_26 (σ : Nat → Value) (g : aG) (ls st : List Value) (h : aH) (k s : Nat) : Rn (aLk T8 σ) g 26 ls st h k s = (i_op o_dup 27) g (Rn (aLk T8 σ) g) ls st h k s := Rn.go mo8 rfl g ls st h k s
theorem r8_27 (σ : Nat → Value) (g : aG) (ls st : List Value) (h : aH) (k s : Nat) : Rn (aLk T8 σ) g 27 ls st h k s = (i_iload 0 28) g (Rn (aLk T8 σ) g) ls st h k s := Rn.go mo8 rfl g ls st h k s
theorem r8_28 (σ : Nat → Value) (g : aG) (ls st : List Value) (h : aH) (k s : Nat) : Rn (aLk T8 σ) g 28 ls st h k s = (i_callI 1 1 [] 31) g (Rn (aLk T8 σ) g) ls st h k s := Rn.go mo8 rfl g ls st h k s
theorem r8_31 (σ : Nat → Value) (g : aG) (ls st : List Value) (h : aH) (k s : Nat) : Rn (aLk T8 σ) g 31 ls st h k s = (i_aret) g (Rn (aLk T8 σ) g) ls st h k s := Rn.go mo8 rfl g ls st h k s
theorem r9_0 (σ : Nat → Value) (g : aG) (ls st : List Value) (h : aH) (k s : Nat) : Rn (aLk T9 σ) g 0 ls st h k s = (i_aload 0 1) g (Rn (aLk T9 σ) g) ls st h k s := Rn.go mo9 rfl g ls st h k s
theorem r9_1 (σ : Nat → Value) (g : aG) (ls st : List Value) (h : aH) (k s : Nat) : Rn (aLk T9 σ) g 1 ls st h k s = (i_callI 14 0 [] 4) g (Rn (aLk T9 σ) g) ls st h k s := Rn.go mo9 rfl g ls st h k s
theorem r9_4 (σ : Nat → Value) (g : aG) (ls st : List Value) (h : aH) (k s : Nat) : Rn (aLk T9 σ) g 4 ls st h k s = (i_aload 0 5) g (Rn (aLk T9 σ) g) ls st h k s := Rn.go mo9 rfl g ls st h k s
theorem r9_5 (σ : Nat → Value) (g : aG) (ls st : List Value) (h : aH) (k s : Nat) : Rn (aLk T9 σ) g 5 ls st h k s = (i_lload 1 6) g (Rn (aLk T9 σ) g) ls st h k s := Rn.go mo9 rfl g ls st h k s
theorem r9_6 (σ : Nat → Value) (g : aG) (ls st : List Value) (h : aH) (k s : Nat) : Rn (aLk T9 σ) g 6 ls st h k s = (i_putf 2 0 .long 9) g (Rn (aLk T9 σ) g) ls st h k s := Rn.go mo9 rfl g ls st h k s
theorem r9_9 (σ : Nat → Value) (g : aG) (ls st : List Value) (h : aH) (k s : Nat) : Rn (aLk T9 σ) g 9 ls st h k s = (i_ret) g (Rn (aLk T9 σ) g) ls st h k s := Rn.go mo9 rfl g ls st h k s
theorem r10_0 (σ : Nat → Value) (g : aG) (ls st : List Value) (h : aH) (k s : Nat) : Rn (aLk T10 σ) g 0 ls st h k s = (i_lload 0 1) g (Rn (aLk T10 σ) g) ls st h k s := Rn.go mo10 rfl g ls st h k s
theorem r10_1 (σ : Nat → Value) (g : aG) (ls st : List Value) (h : aH) (k s : Nat) : Rn (aLk T10 σ) g 1 ls st h k s = (i_lload 2 2) g (Rn (aLk T10 σ) g) ls st h k s := Rn.go mo10 rfl g ls st h k s
theorem r10_2 (σ : Nat → Value) (g : aG) (ls st : List Value) (h : aH) (k s : Nat) : Rn (aLk T10 σ) g 2 ls st h k s = (i_op o_lcmp 3) g (Rn (aLk T10 σ) g) ls st h k s := Rn.go mo10 rfl g ls st h k s
theorem r10_3 (σ : Nat → Value) (g : aG) (ls st : List Value) (h : aH) (k s : Nat) : Rn (aLk T10 σ) g 3 ls st h k s = (i_ifge 10 6) g (Rn (aLk T10 σ) g) ls st h k s := Rn.go mo10 rfl g ls st h k s
theorem r10_6 (σ : Nat → Value) (g : aG) (ls st : List Value) (h : aH) (k s : Nat) : Rn (aLk T10 σ) g 6 ls st h k s = (i_op (o_int (-1)) 7) g (Rn (aLk T10 σ) g) ls st h k s := Rn.go mo10 rfl g ls st h k s
theorem r10_7 (σ : Nat → Value) (g : aG) (ls st : List Value) (h : aH) (k s : Nat) : Rn (aLk T10 σ) g 7 ls st h k s = (i_goto 21) g (Rn (aLk T10 σ) g) ls st h k s := Rn.go mo10 rfl g ls st h k s
theorem r10_10 (σ : Nat → Value) (g : aG) (ls st : List Value) (h : aH) (k s : Nat) : Rn (aLk T10 σ) g 10 ls st h k s = (i_lload 0 11) g (Rn (aLk T10 σ) g) ls st h k s := Rn.go mo10 rfl g ls st h k s
theorem r10_11 (σ : Nat → Value) (g : aG) (ls st : List Value) (h : aH) (k s : Nat) : Rn (aLk T10 σ) g 11 ls st h k s = (i_lload 2 12) g (Rn (aLk T10 σ) g) ls st h k s := Rn.go mo10 rfl g ls st h k s
theorem r10_12 (σ : Nat → Value) (g : aG) (ls st : List Value) (h : aH) (k s : Nat) : Rn (aLk T10 σ) g 12 ls st h k s = (i_op o_lcmp 13) g (Rn (aLk T10 σ) g) ls st h k s := Rn.go mo10 rfl g ls st h k s
theorem r10_13 (σ : Nat → Value) (g : aG) (ls st : List Value) (h : aH) (k s : Nat) : Rn (aLk T10 σ) g 13 ls st h k s = (i_ifne 20 16) g (Rn (aLk T10 σ) g) ls st h k s := Rn.go mo10 rfl g ls st h k s
theorem r10_16 (σ : Nat → Value) (g : aG) (ls st : List Value) (h : aH) (k s : Nat) : Rn (aLk T10 σ) g 16 ls st h k s = (i_op (o_int 0) 17) g (Rn (aLk T10 σ) g) ls st h k s := Rn.go mo10 rfl g ls st h k s
theorem r10_17 (σ : Nat → Value) (g : aG) (ls st : List Value) (h : aH) (k s : Nat) : Rn (aLk T10 σ) g 17 ls st h k s = (i_goto 21) g (Rn (aLk T10 σ) g) ls st h k s := Rn.go mo10 rfl g ls st h k s
theorem r10_20 (σ : Nat → Value) (g : aG) (ls st : List Value) (h : aH) (k s : Nat) : Rn (aLk T10 σ) g 20 ls st h k s = (i_op (o_int 1) 21) g (Rn (aLk T10 σ) g) ls st h k s := Rn.go mo10 rfl g ls st h k s
theorem r10_21 (σ : Nat → Value) (g : aG) (ls st : List Value) (h : aH) (k s : Nat) : Rn (aLk T10 σ) g 21 ls st h k s = (i_iret .int) g (Rn (aLk T10 σ) g) ls st h k s := Rn.go mo10 rfl g ls st h k s
theorem r11_0 (σ : Nat → Value) (g : aG) (ls st : List Value) (h : aH) (k s : Nat) : Rn (aLk T11 σ) g 0 ls st h k s = (i_aload 0 1) g (Rn (aLk T11 σ) g) ls st h k s := Rn.go mo11 rfl g ls st h k s
theorem r11_1 (σ : Nat → Value) (g : aG) (ls st : List Value) (h : aH) (k s : Nat) : Rn (aLk T11 σ) g 1 ls st h k s = (i_getf 2 0 4) g (Rn (aLk T11 σ) g) ls st h k s := Rn.go mo11 rfl g ls st h k s
theorem r11_4 (σ : Nat → Value) (g : aG) (ls st : List Value) (h : aH) (k s : Nat) : Rn (aLk T11 σ) g 4 ls st h k s = (i_aload 1 5) g (Rn (aLk T11 σ) g) ls st h k s := Rn.go mo11 rfl g ls st h k s
theorem r11_5 (σ : Nat → Value) (g : aG) (ls st : List Value) (h : aH) (k s : Nat) : Rn (aLk T11 σ) g 5 ls st h k s = (i_getf 2 0 8) g (Rn (aLk T11 σ) g) ls st h k s := Rn.go mo11 rfl g ls st h k s
theorem r11_8 (σ : Nat → Value) (g : aG) (ls st : List Value) (h : aH) (k s : Nat) : Rn (aLk T11 σ) g 8 ls st h k s = (i_callS 10 2 [] 11) g (Rn (aLk T11 σ) g) ls st h k s := Rn.go mo11 rfl g ls st h k s
theorem r11_11 (σ : Nat → Value) (g : aG) (ls st : List Value) (h : aH) (k s : Nat) : Rn (aLk T11 σ) g 11 ls st h k s = (i_iret .int) g (Rn (aLk T11 σ) g) ls st h k s := Rn.go mo11 rfl g ls st h k s
theorem r12_0 (σ : Nat → Value) (g : aG) (ls st : List Value) (h : aH) (k s : Nat) : Rn (aLk T12 σ) g 0 ls st h k s = (i_aload 0 1) g (Rn (aLk T12 σ) g) ls st h k s := Rn.go mo12 rfl g ls st h k s
theorem r12_1 (σ : Nat → Value) (g : aG) (ls st : List Value) (h : aH) (k s : Nat) : Rn (aLk T12 σ) g 1 ls st h k s = (i_aload 1 2) g (Rn (aLk T12 σ) g) ls st h k s := Rn.go mo12 rfl g ls st h k s
theorem r12_2 (σ : Nat → Value) (g : aG) (ls st : List Value) (h : aH) (k s : Nat) : Rn (aLk T12 σ) g 2 ls st h k s = (i_cast [2, 1002] [] 5) g (Rn (aLk T12 σ) g) ls st h k s := Rn.go mo12 rfl g ls st h k s
theorem r12_5 (σ : Nat → Value) (g : aG) (ls st : List Value) (h : aH) (k s : Nat) : Rn (aLk T12 σ) g 5 ls st h k s = (i_callV [(2, 11), (1002, 11)] 1 [] 8) g (Rn (aLk T12 σ) g) ls st h k s := Rn.go mo12 rfl g ls st h k s
theorem r12_8 (σ : Nat → Value) (g : aG) (ls st : List Value) (h : aH) (k s : Nat) : Rn (aLk T12 σ) g 8 ls st h k s = (i_iret .int) g (Rn (aLk T12 σ) g) ls st h k s := Rn.go mo12 rfl g ls st h k s
theorem r13_0 (σ : Nat → Value) (g : aG) (ls st : List Value) (h : aH) (k s : Nat) : Rn (aLk T13 σ) g 0 ls st h k s = (i_op (o_int 128) 3) g (Rn (aLk T13 σ) g) ls st h k s := Rn.go mo13 rfl g ls st h k s
theorem r13_3 (σ : Nat → Value) (g : aG) (ls st : List Value) (h : aH) (k s : Nat) : Rn (aLk T13 σ) g 3 ls st h k s = (i_istore 2 4) g (Rn (aLk T13 σ) g) ls st h k s := Rn.go mo13 rfl g ls st h k s
theorem r13_4 (σ : Nat → Value) (g : aG) (ls st : List Value) (h : aH) (k s : Nat) : Rn (aLk T13 σ) g 4 ls st h k s = (i_lload 0 5) g (Rn (aLk T13 σ) g) ls st h k s := Rn.go mo13 rfl g ls st h k s
theorem r13_5 (σ : Nat → Value) (g : aG) (ls st : List Value) (h : aH) (k s : Nat) : Rn (aLk T13 σ) g 5 ls st h k s = (i_op (o_long (-128)) 8) g (Rn (aLk T13 σ) g) ls st h k s := Rn.go mo13 rfl g ls st h k s
theorem r13_8 (σ : Nat → Value) (g : aG) (ls st : List Value) (h : aH) (k s : Nat) : Rn (aLk T13 σ) g 8 ls st h k s = (i_op o_lcmp 9) g (Rn (aLk T13 σ) g) ls st h k s := Rn.go mo13 rfl g ls st h k s
theorem r13_9 (σ : Nat → Value) (g : aG) (ls st : List Value) (h : aH) (k s : Nat) : Rn (aLk T13 σ) g 9 ls st h k s = (i_iflt 31 12) g (Rn (aLk T13 σ) g) ls st h k s := Rn.go mo13 rfl g ls st h k s
theorem r13_12 (σ : Nat → Value) (g : aG) (ls st : List Value) (h : aH) (k s : Nat) : Rn (aLk T13 σ) g 12 ls st h k s = (i_lload 0 13) g (Rn (aLk T13 σ) g) ls st h k s := Rn.go mo13 rfl g ls st h k s
theorem r13_13 (σ : Nat → Value) (g : aG) (ls st : List Value) (h : aH) (k s : Nat) : Rn (aLk T13 σ) g 13 ls st h k s = (i_op (o_long 127) 16) g (Rn (aLk T13 σ) g) ls st h k s := Rn.go mo13 rfl g ls st h k s
theorem r13_16 (σ : Nat → Value) (g : aG) (ls st : List Value) (h : aH) (k s : Nat) : Rn (aLk T13 σ) g 16 ls st h k s = (i_op o_lcmp 17) g (Rn (aLk T13 σ) g) ls st h k s := Rn.go mo13 rfl g ls st h k s
theorem r13_17 (σ : Nat → Value) (g : aG) (ls st : List Value) (h : aH) (k s : Nat) : Rn (aLk T13 σ) g 17 ls st h k s = (i_ifgt 31 20) g (Rn (aLk T13 σ) g) ls st h k s := Rn.go mo13 rfl g ls st h k s
theorem r13_20 (σ : Nat → Value) (g : aG) (ls st : List Value) (h : aH) (k s : Nat) : Rn (aLk T13 σ) g 20 ls st h k s = (i_push (σ 2) 23) g (Rn (aLk T13 σ) g) ls st h k s := Rn.go mo13 rfl g ls st h k s
theorem r13_23 (σ : Nat → Value) (g : aG) (ls st : List Value) (h : aH) (k s : Nat) : Rn (aLk T13 σ) g 23 ls st h k s = (i_lload 0 24) g (Rn (aLk T13 σ) g) ls st h k s := Rn.go mo13 rfl g ls st h k s
theorem r13_24 (σ : Nat → Value) (g : aG) (ls st : List Value) (h : aH) (k s : Nat) : Rn (aLk T13 σ) g 24 ls st h k s = (i_op o_l2i 25) g (Rn (aLk T13 σ) g) ls st h k s := Rn.go mo13 rfl g ls st h k s
theorem r13_25 (σ : Nat → Value) (g : aG) (ls st : List Value) (h : aH) (k s : Nat) : Rn (aLk T13 σ) g 25 ls st h k s = (i_op (o_int 128) 28) g (Rn (aLk T13 σ) g) ls st h k s := Rn.go mo13 rfl g ls st h k s
theorem r13_28 (σ : Nat → Value) (g : aG) (ls st : List Value) (h : aH) (k s : Nat) : Rn (aLk T13 σ) g 28 ls st h k s = (i_op o_iadd 29) g (Rn (aLk T13 σ) g) ls st h k s := Rn.go mo13 rfl g ls st h k s
theorem r13_29 (σ : Nat → Value) (g : aG) (ls st : List Value) (h : aH) (k s : Nat) : Rn (aLk T13 σ) g 29 ls st h k s = (i_aald [4, 5, 6, 7, 1004, 1008, 1009] 30) g (Rn (aLk T13 σ) g) ls st h k s := Rn.go mo13 rfl g ls st h k s
theorem r13_30 (σ : Nat → Value) (g : aG) (ls st : List Value) (h : aH) (k s : Nat) : Rn (aLk T13 σ) g 30 ls st h k s = (i_aret) g (Rn (aLk T13 σ) g) ls st h k s := Rn.go mo13 rfl g ls st h k s
theorem r13_31 (σ : Nat → Value) (g : aG) (ls st : List Value) (h : aH) (k s : Nat) : Rn (aLk T13 σ) g 31 ls st h k s = (i_new 2 1 [.long 0] 34) g (Rn (aLk T13 σ) g) ls st h k s := Rn.go mo13 rfl g ls st h k s
theorem r13_34 (σ : Nat → Value) (g : aG) (ls st : List Value) (h : aH) (k s : Nat) : Rn (aLk T13 σ) g 34 ls st h k s = (i_op o_dup 35) g (Rn (aLk T13 σ) g) ls st h k s := Rn.go mo13 rfl g ls st h k s
theorem r13_35 (σ : Nat → Value) (g : aG) (ls st : List Value) (h : aH) (k s : Nat) : Rn (aLk T13 σ) g 35 ls st h k s = (i_lload 0 36) g (Rn (aLk T13 σ) g) ls st h k s := Rn.go mo13 rfl g ls st h k s
theorem r13_36 (σ : Nat → Value) (g : aG) (ls st : List Value) (h : aH) (k s : Nat) : Rn (aLk T13 σ) g 36 ls st h k s = (i_callI 9 1 [] 39) g (Rn (aLk T13 σ) g) ls st h k s := Rn.go mo13 rfl g ls st h k s
theorem r13_39 (σ : Nat → Value) (g : aG) (ls st : List Value) (h : aH) (k s : Nat) : Rn (aLk T13 σ) g 39 ls st h k s = (i_aret) g (Rn (aLk T13 σ) g) ls st h k s := Rn.go mo13 rfl g ls st h k s
theorem r14_0 (σ : Nat → Value) (g : aG) (ls st : List Value) (h : aH) (k s : Nat) : Rn (aLk T14 σ) g 0 ls st h k s = (i_aload 0 1) g (Rn (aLk T14 σ) g) ls st h k s := Rn.go mo14 rfl g ls st h k s
theorem r14_1 (σ : Nat → Value) (g : aG) (ls st : List Value) (h : aH) (k s : Nat) : Rn (aLk T14 σ) g 1 ls st h k s = (i_oinit 4) g (Rn (aLk T14 σ) g) ls st h k s := Rn.go mo14 rfl g ls st h k s
theorem r14_4 (σ : Nat → Value) (g : aG) (ls st : List Value) (h : aH) (k s : Nat) : Rn (aLk T14 σ) g 4 ls st h k s = (i_ret) g (Rn (aLk T14 σ) g) ls st h k s := Rn.go mo14 rfl g ls st h k s
theorem r15_0 (σ : Nat → Value) (g : aG) (ls st : List Value) (h : aH) (k s : Nat) : Rn (aLk T15 σ) g 0 ls st h k s = (i_push (.int 1) 3) g (Rn (aLk T15 σ) g) ls st h k s := Rn.go mo15 rfl g ls st h k s
theorem r15_3 (σ : Nat → Value) (g : aG) (ls st : List Value) (h : aH) (k s : Nat) : Rn (aLk T15 σ) g 3 ls st h k s = (i_ifeq 13 6) g (Rn (aLk T15 σ) g) ls st h k s := Rn.go mo15 rfl g ls st h k s
theorem r15_6 (σ : Nat → Value) (g : aG) (ls st : List Value) (h : aH) (k s : Nat) : Rn (aLk T15 σ) g 6 ls st h k s = (i_aload 0 7) g (Rn (aLk T15 σ) g) ls st h k s := Rn.go mo15 rfl g ls st h k s
theorem r15_7 (σ : Nat → Value) (g : aG) (ls st : List Value) (h : aH) (k s : Nat) : Rn (aLk T15 σ) g 7 ls st h k s = (i_getf 10 1 10) g (Rn (aLk T15 σ) g) ls st h k s := Rn.go mo15 rfl g ls st h k s
theorem r15_10 (σ : Nat → Value) (g : aG) (ls st : List Value) (h : aH) (k s : Nat) : Rn (aLk T15 σ) g 10 ls st h k s = (i_goto 14) g (Rn (aLk T15 σ) g) ls st h k s := Rn.go mo15 rfl g ls st h k s
theorem r15_13 (σ : Nat → Value) (g : aG) (ls st : List Value) (h : aH) (k s : Nat) : Rn (aLk T15 σ) g 13 ls st h k s = (i_op (o_int 1) 14) g (Rn (aLk T15 σ) g) ls st h k s := Rn.go mo15 rfl g ls st h k s
theorem r15_14 (σ : Nat → Value) (g : aG) (ls st : List Value) (h : aH) (k s : Nat) : Rn (aLk T15 σ) g 14 ls st h k s = (i_iret .byte) g (Rn (aLk T15 σ) g) ls st h k s := Rn.go mo15 rfl g ls st h k s
theorem r16_0 (σ : Nat → Value) (g : aG) (ls st : List Value) (h : aH) (k s : Nat) : Rn (aLk T16 σ) g 0 ls st h k s = (i_aload 0 1) g (Rn (aLk T16 σ) g) ls st h k s := Rn.go mo16 rfl g ls st h k s
theorem r16_1 (σ : Nat → Value) (g : aG) (ls st : List Value) (h : aH) (k s : Nat) : Rn (aLk T16 σ) g 1 ls st h k s = (i_iload 1 2) g (Rn (aLk T16 σ) g) ls st h k s := Rn.go mo16 rfl g ls st h k s
theorem r16_2 (σ : Nat → Value) (g : aG) (ls st : List Value) (h : aH) (k s : Nat) : Rn (aLk T16 σ) g 2 ls st h k s = (i_op (o_int 0) 3) g (Rn (aLk T16 σ) g) ls st h k s := Rn.go mo16 rfl g ls st h k s
theorem r16_3 (σ : Nat → Value) (g : aG) (ls st : List Value) (h : aH) (k s : Nat) : Rn (aLk T16 σ) g 3 ls st h k s = (i_callV [(10, 17), (1010, 17)] 2 [] 6) g (Rn (aLk T16 σ) g) ls st h k s := Rn.go mo16 rfl g ls st h k s
theorem r16_6 (σ : Nat → Value) (g : aG) (ls st : List Value) (h : aH) (k s : Nat) : Rn (aLk T16 σ) g 6 ls st h k s = (i_iret .int) g (Rn (aLk T16 σ) g) ls st h k s := Rn.go mo16 rfl g ls st h k s
theorem r17_0 (σ : Nat → Value) (g : aG) (ls st : List Value) (h : aH) (k s : Nat) : Rn (aLk T17 σ) g 0 ls st h k s = (i_aload 0 1) g (Rn (aLk T17 σ) g) ls st h k s := Rn.go mo17 rfl g ls st h k s
theorem r17_1 (σ : Nat → Value) (g : aG) (ls st : List Value) (h : aH) (k s : Nat) : Rn (aLk T17 σ) g 1 ls st h k s = (i_callV [(10, 18), (1010, 18)] 0 [] 4) g (Rn (aLk T17 σ) g) ls st h k s := Rn.go mo17 rfl g ls st h k s
theorem r17_4 (σ : Nat → Value) (g : aG) (ls st : List Value) (h : aH) (k s : Nat) : Rn (aLk T17 σ) g 4 ls st h k s = (i_ifeq 23 7) g (Rn (aLk T17 σ) g) ls st h k s := Rn.go mo17 rfl g ls st h k s
theorem r17_7 (σ : Nat → Value) (g : aG) (ls st : List Value) (h : aH) (k s : Nat) : Rn (aLk T17 σ) g 7 ls st h k s = (i_aload 0 8) g (Rn (aLk T17 σ) g) ls st h k s := Rn.go mo17 rfl g ls st h k s
theorem r17_8 (σ : Nat → Value) (g : aG) (ls st : List Value) (h : aH) (k s : Nat) : Rn (aLk T17 σ) g 8 ls st h k s = (i_getf 10 0 11) g (Rn (aLk T17 σ) g) ls st h k s := Rn.go mo17 rfl g ls st h k s
theorem r17_11 (σ : Nat → Value) (g : aG) (ls st : List Value) (h : aH) (k s : Nat) : Rn (aLk T17 σ) g 11 ls st h k s = (i_iload 1 12) g (Rn (aLk T17 σ) g) ls st h k s := Rn.go mo17 rfl g ls st h k s
theorem r17_12 (σ : Nat → Value) (g : aG) (ls st : List Value) (h : aH) (k s : Nat) : Rn (aLk T17 σ) g 12 ls st h k s = (i_iload 2 13) g (Rn (aLk T17 σ) g) ls st h k s := Rn.go mo17 rfl g ls st h k s
theorem r17_13 (σ : Nat → Value) (g : aG) (ls st : List Value) (h : aH) (k s : Nat) : Rn (aLk T17 σ) g 13 ls st h k s = (i_aload 0 14) g (Rn (aLk T17 σ) g) ls st h k s := Rn.go mo17 rfl g ls st h k s
theorem r17_14 (σ : Nat → Value) (g : aG) (ls st : List Value) (h : aH) (k s : Nat) : Rn (aLk T17 σ) g 14 ls st h k s = (i_callV [(10, 19), (1010, 19)] 0 [] 17) g (Rn (aLk T17 σ) g) ls st h k s := Rn.go mo17 rfl g ls st h k s
theorem r17_17 (σ : Nat → Value) (g : aG) (ls st : List Value) (h : aH) (k s : Nat) : Rn (aLk T17 σ) g 17 ls st h k s = (i_callS 21 4 [] 20) g (Rn (aLk T17 σ) g) ls st h k s := Rn.go mo17 rfl g ls st h k s
theorem r17_20 (σ : Nat → Value) (g : aG) (ls st : List Value) (h : aH) (k s : Nat) : Rn (aLk T17 σ) g 20 ls st h k s = (i_goto 36) g (Rn (aLk T17 σ) g) ls st h k s := Rn.go mo17 rfl g ls st h k s
theorem r17_23 (σ : Nat → Value) (g : aG) (ls st : List Value) (h : aH) (k s : Nat) : Rn (aLk T17 σ) g 23 ls st h k s = (i_aload 0 24) g (Rn (aLk T17 σ) g) ls st h k s := Rn.go mo17 rfl g ls st h k s
theorem r17_24 (σ : Nat → Value) (g : aG) (ls st : List Value) (h : aH) (k s : Nat) : Rn (aLk T17 σ) g 24 ls st h k s = (i_getf 10 0 27) g (Rn (aLk T17 σ) g) ls st h k s := Rn.go mo17 rfl g ls st h k s
theorem r17_27 (σ : Nat → Value) (g : aG) (ls st : List Value) (h : aH) (k s : Nat) : Rn (aLk T17 σ) g 27 ls st h k s = (i_iload 1 28) g (Rn (aLk T17 σ) g) ls st h k s := Rn.go mo17 rfl g ls st h k s
theorem r17_28 (σ : Nat → Value) (g : aG) (ls st : List Value) (h : aH) (k s : Nat) : Rn (aLk T17 σ) g 28 ls st h k s = (i_iload 2 29) g (Rn (aLk T17 σ) g) ls st h k s := Rn.go mo17 rfl g ls st h k s
theorem r17_29 (σ : Nat → Value) (g : aG) (ls st : List Value) (h : aH) (k s : Nat) : Rn (aLk T17 σ) g 29 ls st h k s = (i_aload 0 30) g (Rn (aLk T17 σ) g) ls st h k s := Rn.go mo17 rfl g ls st h k s
theorem r17_30 (σ : Nat → Value) (g : aG) (ls st : List Value) (h : aH) (k s : Nat) : Rn (aLk T17 σ) g 30 ls st h k s = (i_callV [(10, 19), (1010, 19)] 0 [] 33) g (Rn (aLk T17 σ) g) ls st h k s := Rn.go mo17 rfl g ls st h k s
theorem r17_36 (σ : Nat → Value) (g : aG) (ls st : List Value) (h : aH) (k s : Nat) : Rn (aLk T17 σ) g 36 ls st h k s = (i_iret .int) g (Rn (aLk T17 σ) g) ls st h k s := Rn.go mo17 rfl g ls st h k s
theorem r18_0 (σ : Nat → Value) (g : aG) (ls st : List Value) (h : aH) (k s : Nat) : Rn (aLk T18 σ) g 0 ls st h k s = (i_push (.int 1) 3) g (Rn (aLk T18 σ) g) ls st h k s := Rn.go mo18 rfl g ls st h k s
theorem r18_3 (σ : Nat → Value) (g : aG) (ls st : List Value) (h : aH) (k s : Nat) : Rn (aLk T18 σ) g 3 ls st h k s = (i_ifeq 17 6) g (Rn (aLk T18 σ) g) ls st h k s := Rn.go mo18 rfl g ls st h k s
theorem r18_6 (σ : Nat → Value) (g : aG) (ls st : List Value) (h : aH) (k s : Nat) : Rn (aLk T18 σ) g 6 ls st h k s = (i_aload 0 7) g (Rn (aLk T18 σ) g) ls st h k s := Rn.go mo18 rfl g ls st h k s
theorem r18_7 (σ : Nat → Value) (g : aG) (ls st : List Value) (h : aH) (k s : Nat) : Rn (aLk T18 σ) g 7 ls st h k s = (i_getf 10 1 10) g (Rn (aLk T18 σ) g) ls st h k s := Rn.go mo18 rfl g ls st h k s
theorem r18_10 (σ : Nat → Value) (g : aG) (ls st : List Value) (h : aH) (k s : Nat) : Rn (aLk T18 σ) g 10 ls st h k s = (i_ifne 17 13) g (Rn (aLk T18 σ) g) ls st h k s := Rn.go mo18 rfl g ls st h k s
theorem r18_13 (σ : Nat → Value) (g : aG) (ls st : List Value) (h : aH) (k s : Nat) : Rn (aLk T18 σ) g 13 ls st h k s = (i_op (o_int 1) 14) g (Rn (aLk T18 σ) g) ls st h k s := Rn.go mo18 rfl g ls st h k s
theorem r18_14 (σ : Nat → Value) (g : aG) (ls st : List Value) (h : aH) (k s : Nat) : Rn (aLk T18 σ) g 14 ls st h k s = (i_goto 18) g (Rn (aLk T18 σ) g) ls st h k s := Rn.go mo18 rfl g ls st h k s
theorem r18_17 (σ : Nat → Value) (g : aG) (ls st : List Value) (h : aH) (k s : Nat) : Rn (aLk T18 σ) g 17 ls st h k s = (i_op (o_int 0) 18) g (Rn (aLk T18 σ) g) ls st h k s := Rn.go mo18 rfl g ls st h k s
theorem r18_18 (σ : Nat → Value) (g : aG) (ls st : List Value) (h : aH) (k s : Nat) : Rn (aLk T18 σ) g 18 ls st h k s = (i_iret .boolean) g (Rn (aLk T18 σ) g) ls st h k s := Rn.go mo18 rfl g ls st h k s
theorem r19_0 (σ : Nat → Value) (g : aG) (ls st : List Value) (h : aH) (k s : Nat) : Rn (aLk T19 σ) g 0 ls st h k s = (i_aload 0 1) g (Rn (aLk T19 σ) g) ls st h k s := Rn.go mo19 rfl g ls st h k s
theorem r19_1 (σ : Nat → Value) (g : aG) (ls st : List Value) (h : aH) (k s : Nat) : Rn (aLk T19 σ) g 1 ls st h k s = (i_getf 10 0 4) g (Rn (aLk T19 σ) g) ls st h k s := Rn.go mo19 rfl g ls st h k s
theorem r19_4 (σ : Nat → Value) (g : aG) (ls st : List Value) (h : aH) (k s : Nat) : Rn (aLk T19 σ) g 4 ls st h k s = (i_alen 5) g (Rn (aLk T19 σ) g) ls st h k s := Rn.go mo19 rfl g ls st h k s
theorem r19_5 (σ : Nat → Value) (g : aG) (ls st : List Value) (h : aH) (k s : Nat) : Rn (aLk T19 σ) g 5 ls st h k s = (i_aload 0 6) g (Rn (aLk T19 σ) g) ls st h k s := Rn.go mo19 rfl g ls st h k s
theorem r19_6 (σ : Nat → Value) (g : aG) (ls st : List Value) (h : aH) (k s : Nat) : Rn (aLk T19 σ) g 6 ls st h k s = (i_callV [(10, 15), (1010, 15)] 0 [] 9) g (Rn (aLk T19 σ) g) ls st h k s := Rn.go mo19 rfl g ls st h k s
theorem r19_9 (σ : Nat → Value) (g : aG) (ls st : List Value) (h : aH) (k s : Nat) : Rn (aLk T19 σ) g 9 ls st h k s = (i_op o_ishr 10) g (Rn (aLk T19 σ) g) ls st h k s := Rn.go mo19 rfl g ls st h k s
theorem r19_10 (σ : Nat → Value) (g : aG) (ls st : List Value) (h : aH) (k s : Nat) : Rn (aLk T19 σ) g 10 ls st h k s = (i_iret .int) g (Rn (aLk T19 σ) g) ls st h k s := Rn.go mo19 rfl g ls st h k s
theorem r20_0 (σ : Nat → Value) (g : aG) (ls st : List Value) (h : aH) (k s : Nat) : Rn (aLk T20 σ) g 0 ls st h k s = (i_iload 0 1) g (Rn (aLk T20 σ) g) ls st h k s := Rn.go mo20 rfl g ls st h k s
theorem r20_1 (σ : Nat → Value) (g : aG) (ls st : List Value) (h : aH) (k s : Nat) : Rn (aLk T20 σ) g 1 ls st h k s = (i_iflt 15 4) g (Rn (aLk T20 σ) g) ls st h k s := Rn.go mo20 rfl g ls st h k s
theorem r20_4 (σ : Nat → Value) (g : aG) (ls st : List Value) (h : aH) (k s : Nat) : Rn (aLk T20 σ) g 4 ls st h k s = (i_iload 0 5) g (Rn (aLk T20 σ) g) ls st h k s := Rn.go mo20 rfl g ls st h k s
theorem r20_5 (σ : Nat → Value) (g : aG) (ls st : List Value) (h : aH) (k s : Nat) : Rn (aLk T20 σ) g 5 ls st h k s = (i_op (o_int 255) 8) g (Rn (aLk T20 σ) g) ls st h k s := Rn.go mo20 rfl g ls st h k s
theorem r20_8 (σ : Nat → Value) (g : aG) (ls st : List Value) (h : aH) (k s : Nat) : Rn (aLk T20 σ) g 8 ls st h k s = (i_cgt 15 11) g (Rn (aLk T20 σ) g) ls st h k s := Rn.go mo20 rfl g ls st h k s
theorem r20_11 (σ : Nat → Value) (g : aG) (ls st : List Value) (h : aH) (k s : Nat) : Rn (aLk T20 σ) g 11 ls st h k s = (i_op (o_int 1) 12) g (Rn (aLk T20 σ) g) ls st h k s := Rn.go mo20 rfl g ls st h k s
theorem r20_12 (σ : Nat → Value) (g : aG) (ls st : List Value) (h : aH) (k s : Nat) : Rn (aLk T20 σ) g 12 ls st h k s = (i_goto 16) g (Rn (aLk T20 σ) g) ls st h k s := Rn.go mo20 rfl g ls st h k s
theorem r20_15 (σ : Nat → Value) (g : aG) (ls st : List Value) (h : aH) (k s : Nat) : Rn (aLk T20 σ) g 15 ls st h k s = (i_op (o_int 0) 16) g (Rn (aLk T20 σ) g) ls st h k s := Rn.go mo20 rfl g ls st h k s
theorem r20_16 (σ : Nat → Value) (g : aG) (ls st : List Value) (h : aH) (k s : Nat) : Rn (aLk T20 σ) g 16 ls st h k s = (i_iret .boolean) g (Rn (aLk T20 σ) g) ls st h k s := Rn.go mo20 rfl g ls st h k s
theorem r21_0 (σ : Nat → Value) (g : aG) (ls st : List Value) (h : aH) (k s : Nat) : Rn (aLk T21 σ) g 0 ls st h k s = (i_iload 1 1) g (Rn (aLk T21 σ) g) ls st h k s := Rn.go mo21 rfl g ls st h k s
theorem r21_1 (σ : Nat → Value) (g : aG) (ls st : List Value) (h : aH) (k s : Nat) : Rn (aLk T21 σ) g 1 ls st h k s = (i_callS 20 1 [] 4) g (Rn (aLk T21 σ) g) ls st h k s := Rn.go mo21 rfl g ls st h k s
theorem r21_4 (σ : Nat → Value) (g : aG) (ls st : List Value) (h : aH) (k s : Nat) : Rn (aLk T21 σ) g 4 ls st h k s = (i_ifne 9 7) g (Rn (aLk T21 σ) g) ls st h k s := Rn.go mo21 rfl g ls st h k s
theorem r21_7 (σ : Nat → Value) (g : aG) (ls st : List Value) (h : aH) (k s : Nat) : Rn (aLk T21 σ) g 7 ls st h k s = (i_op (o_int (-1)) 8) g (Rn (aLk T21 σ) g) ls st h k s := Rn.go mo21 rfl g ls st h k s
theorem r21_8 (σ : Nat → Value) (g : aG) (ls st : List Value) (h : aH) (k s : Nat) : Rn (aLk T21 σ) g 8 ls st h k s = (i_iret .int) g (Rn (aLk T21 σ) g) ls st h k s := Rn.go mo21 rfl g ls st h k s
theorem r21_9 (σ : Nat → Value) (g : aG) (ls st : List Value) (h : aH) (k s : Nat) : Rn (aLk T21 σ) g 9 ls st h k s = (i_iload 2 10) g (Rn (aLk T21 σ) g) ls st h k s := Rn.go mo21 rfl g ls st h k s
theorem r21_10 (σ : Nat → Value) (g : aG) (ls st : List Value) (h : aH) (k s : Nat) : Rn (aLk T21 σ) g 10 ls st h k s = (i_op (o_int 0) 11) g (Rn (aLk T21 σ) g) ls st h k s := Rn.go mo21 rfl g ls st h k s
theorem r21_11 (σ : Nat → Value) (g : aG) (ls st : List Value) (h : aH) (k s : Nat) : Rn (aLk T21 σ) g 11 ls st h k s = (i_mmax 14) g (Rn (aLk T21 σ) g) ls st h k s := Rn.go mo21 rfl g ls st h k s
theorem r21_14 (σ : Nat → Value) (g : aG) (ls st : List Value) (h : aH) (k s : Nat) : Rn (aLk T21 σ) g 14 ls st h k s = (i_istore 2 15) g (Rn (aLk T21 σ) g) ls st h k s := Rn.go mo21 rfl g ls st h k s
theorem r21_15 (σ : Nat → Value) (g : aG) (ls st : List Value) (h : aH) (k s : Nat) : Rn (aLk T21 σ) g 15 ls st h k s = (i_iload 3 16) g (Rn (aLk T21 σ) g) ls st h k s := Rn.go mo21 rfl g ls st h k s
theorem r21_16 (σ : Nat → Value) (g : aG) (ls st : List Value) (h : aH) (k s : Nat) : Rn (aLk T21 σ) g 16 ls st h k s = (i_aload 0 17) g (Rn (aLk T21 σ) g) ls st h k s := Rn.go mo21 rfl g ls st h k s
theorem r21_17 (σ : Nat → Value) (g : aG) (ls st : List Value) (h : aH) (k s : Nat) : Rn (aLk T21 σ) g 17 ls st h k s = (i_alen 18) g (Rn (aLk T21 σ) g) ls st h k s := Rn.go mo21 rfl g ls st h k s
theorem r21_18 (σ : Nat → Value) (g : aG) (ls st : List Value) (h : aH) (k s : Nat) : Rn (aLk T21 σ) g 18 ls st h k s = (i_mmin 21) g (Rn (aLk T21 σ) g) ls st h k s := Rn.go mo21 rfl g ls st h k s
theorem r21_21 (σ : Nat → Value) (g : aG) (ls st : List Value) (h : aH) (k s : Nat) : Rn (aLk T21 σ) g 21 ls st h k s = (i_istore 3 22) g (Rn (aLk T21 σ) g) ls st h k s := Rn.go mo21 rfl g ls st h k s
theorem r21_22 (σ : Nat → Value) (g : aG) (ls st : List Value) (h : aH) (k s : Nat) : Rn (aLk T21 σ) g 22 ls st h k s = (i_iload 2 23) g (Rn (aLk T21 σ) g) ls st h k s := Rn.go mo21 rfl g ls st h k s
theorem r21_23 (σ : Nat → Value) (g : aG) (ls st : List Value) (h : aH) (k s : Nat) : Rn (aLk T21 σ) g 23 ls st h k s = (i_iload 3 24) g (Rn (aLk T21 σ) g) ls st h k s := Rn.go mo21 rfl g ls st h k s
theorem r21_24 (σ : Nat → Value) (g : aG) (ls st : List Value) (h : aH) (k s : Nat) : Rn (aLk T21 σ) g 24 ls st h k s = (i_clt 29 27) g (Rn (aLk T21 σ) g) ls st h k s := Rn.go mo21 rfl g ls st h k s
theorem r21_27 (σ : Nat → Value) (g : aG) (ls st : List Value) (h : aH) (k s : Nat) : Rn (aLk T21 σ) g 27 ls st h k s = (i_op (o_int (-1)) 28) g (Rn (aLk T21 σ) g) ls st h k s := Rn.go mo21 rfl g ls st h k s
theorem r21_28 (σ : Nat → Value) (g : aG) (ls st : List Value) (h : aH) (k s : Nat) : Rn (aLk T21 σ) g 28 ls st h k s = (i_iret .int) g (Rn (aLk T21 σ) g) ls st h k s := Rn.go mo21 rfl g ls st h k s
theorem r21_29 (σ : Nat → Value) (g : aG) (ls st : List Value) (h : aH) (k s : Nat) : Rn (aLk T21 σ) g 29 ls st h k s = (i_aload 0 30) g (Rn (aLk T21 σ) g) ls st h k s := Rn.go mo21 rfl g ls st h k s
theorem r21_30 (σ : Nat → Value) (g : aG) (ls st : List Value) (h : aH) (k s : Nat) : Rn (aLk T21 σ) g 30 ls st h k s = (i_iload 1 31) g (Rn (aLk T21 σ) g) ls st h k s := Rn.go mo21 rfl g ls st h k s
theorem r21_31 (σ : Nat → Value) (g : aG) (ls st : List Value) (h : aH) (k s : Nat) : Rn (aLk T21 σ) g 31 ls st h k s = (i_iload 2 32) g (Rn (aLk T21 σ) g) ls st h k s := Rn.go mo21 rfl g ls st h k s
theorem r21_32 (σ : Nat → Value) (g : aG) (ls st : List Value) (h : aH) (k s : Nat) : Rn (aLk T21 σ) g 32 ls st h k s = (i_iload 3 33) g (Rn (aLk T21 σ) g) ls st h k s := Rn.go mo21 rfl g ls st h k s
theorem r21_33 (σ : Nat → Value) (g : aG) (ls st : List Value) (h : aH) (k s : Nat) : Rn (aLk T21 σ) g 33 ls st h k s = (i_callS 22 4 [] 36) g (Rn (aLk T21 σ) g) ls st h k s := Rn.go mo21 rfl g ls st h k s
theorem r21_36 (σ : Nat → Value) (g : aG) (ls st : List Value) (h : aH) (k s : Nat) : Rn (aLk T21 σ) g 36 ls st h k s = (i_iret .int) g (Rn (aLk T21 σ) g) ls st h k s := Rn.go mo21 rfl g ls st h k s
theorem r22_0 (σ : Nat → Value) (g : aG) (ls st : List Value) (h : aH) (k s : Nat) : Rn (aLk T22 σ) g 0 ls st h k s = (i_iload 1 1) g (Rn (aLk T22 σ) g) ls st h k s := Rn.go mo22 rfl g ls st h k s
theorem r22_1 (σ : Nat → Value) (g : aG) (ls st : List Value) (h : aH) (k s : Nat) : Rn (aLk T22 σ) g 1 ls st h k s = (i_op o_i2b 2) g (Rn (aLk T22 σ) g) ls st h k s := Rn.go mo22 rfl g ls st h k s
theorem r22_2 (σ : Nat → Value) (g : aG) (ls st : List Value) (h : aH) (k s : Nat) : Rn (aLk T22 σ) g 2 ls st h k s = (i_istore 4 4) g (Rn (aLk T22 σ) g) ls st h k s := Rn.go mo22 rfl g ls st h k s
theorem r22_4 (σ : Nat → Value) (g : aG) (ls st : List Value) (h : aH) (k s : Nat) : Rn (aLk T22 σ) g 4 ls st h k s = (i_iload 2 5) g (Rn (aLk T22 σ) g) ls st h k s := Rn.go mo22 rfl g ls st h k s
theorem r22_5 (σ : Nat → Value) (g : aG) (ls st : List Value) (h : aH) (k s : Nat) : Rn (aLk T22 σ) g 5 ls st h k s = (i_istore 5 7) g (Rn (aLk T22 σ) g) ls st h k s := Rn.go mo22 rfl g ls st h k s
theorem r22_7 (σ : Nat → Value) (g : aG) (ls st : List Value) (h : aH) (k s : Nat) : Rn (aLk T22 σ) g 7 ls st h k s = (i_iload 5 9) g (Rn (aLk T22 σ) g) ls st h k s := Rn.go mo22 rfl g ls st h k s
theorem r22_9 (σ : Nat → Value) (g : aG) (ls st : List Value) (h : aH) (k s : Nat) : Rn (aLk T22 σ) g 9 ls st h k s = (i_iload 3 10) g (Rn (aLk T22 σ) g) ls st h k s := Rn.go mo22 rfl g ls st h k s
theorem r22_10 (σ : Nat → Value) (g : aG) (ls st : List Value) (h : aH) (k s : Nat) : Rn (aLk T22 σ) g 10 ls st h k s = (i_cge 31 13) g (Rn (aLk T22 σ) g) ls st h k s := Rn.go mo22 rfl g ls st h k s
theorem r22_13 (σ : Nat → Value) (g : aG) (ls st : List Value) (h : aH) (k s : Nat) : Rn (aLk T22 σ) g 13 ls st h k s = (i_aload 0 14) g (Rn (aLk T22 σ) g) ls st h k s := Rn.go mo22 rfl g ls st h k s
theorem r22_14 (σ : Nat → Value) (g : aG) (ls st : List Value) (h : aH) (k s : Nat) : Rn (aLk T22 σ) g 14 ls st h k s = (i_iload 5 16) g (Rn (aLk T22 σ) g) ls st h k s := Rn.go mo22 rfl g ls st h k s
theorem r22_16 (σ : Nat → Value) (g : aG) (ls st : List Value) (h : aH) (k s : Nat) : Rn (aLk T22 σ) g 16 ls st h k s = (i_iald 3 17) g (Rn (aLk T22 σ) g) ls st h k s := Rn.go mo22 rfl g ls st h k s
theorem r22_17 (σ : Nat → Value) (g : aG) (ls st : List Value) (h : aH) (k s : Nat) : Rn (aLk T22 σ) g 17 ls st h k s = (i_iload 4 19) g (Rn (aLk T22 σ) g) ls st h k s := Rn.go mo22 rfl g ls st h k s
theorem r22_19 (σ : Nat → Value) (g : aG) (ls st : List Value) (h : aH) (k s : Nat) : Rn (aLk T22 σ) g 19 ls st h k s = (i_cne 25 22) g (Rn (aLk T22 σ) g) ls st h k s := Rn.go mo22 rfl g ls st h k s
theorem r22_22 (σ : Nat → Value) (g : aG) (ls st : List Value) (h : aH) (k s : Nat) : Rn (aLk T22 σ) g 22 ls st h k s = (i_iload 5 24) g (Rn (aLk T22 σ) g) ls st h k s := Rn.go mo22 rfl g ls st h k s
theorem r22_24 (σ : Nat → Value) (g : aG) (ls st : List Value) (h : aH) (k s : Nat) : Rn (aLk T22 σ) g 24 ls st h k s = (i_iret .int) g (Rn (aLk T22 σ) g) ls st h k s := Rn.go mo22 rfl g ls st h k s
theorem r22_25 (σ : Nat → Value) (g : aG) (ls st : List Value) (h : aH) (k s : Nat) : Rn (aLk T22 σ) g 25 ls st h k s = (i_iinc 5 1 28) g (Rn (aLk T22 σ) g) ls st h k s := Rn.go mo22 rfl g ls st h k s
theorem r22_28 (σ : Nat → Value) (g : aG) (ls st : List Value) (h : aH) (k s : Nat) : Rn (aLk T22 σ) g 28 ls st h k s = (i_goto 7) g (Rn (aLk T22 σ) g) ls st h k s := Rn.go mo22 rfl g ls st h k s
theorem r22_31 (σ : Nat → Value) (g : aG) (ls st : List Value) (h : aH) (k s : Nat) : Rn (aLk T22 σ) g 31 ls st h k s = (i_op (o_int (-1)) 32) g (Rn (aLk T22 σ) g) ls st h k s := Rn.go mo22 rfl g ls st h k s
theorem r22_32 (σ : Nat → Value) (g : aG) (ls st : List Value) (h : aH) (k s : Nat) : Rn (aLk T22 σ) g 32 ls st h k s = (i_iret .int) g (Rn (aLk T22 σ) g) ls st h k s := Rn.go mo22 rfl g ls st h k s
theorem r23_0 (σ : Nat → Value) (g : aG) (ls st : List Value) (h : aH) (k s : Nat) : Rn (aLk T23 σ) g 0 ls st h k s = (i_aload 0 1) g (Rn (aLk T23 σ) g) ls st h k s := Rn.go mo23 rfl g ls st h k s
theorem r23_1 (σ : Nat → Value) (g : aG) (ls st : List Value) (h : aH) (k s : Nat) : Rn (aLk T23 σ) g 1 ls st h k s = (i_oinit 4) g (Rn (aLk T23 σ) g) ls st h k s := Rn.go mo23 rfl g ls st h k s
theorem r23_4 (σ : Nat → Value) (g : aG) (ls st : List Value) (h : aH) (k s : Nat) : Rn (aLk T23 σ) g 4 ls st h k s = (i_aload 0 5) g (Rn (aLk T23 σ) g) ls st h k s := Rn.go mo23 rfl g ls st h k s
theorem r23_5 (σ : Nat → Value) (g : aG) (ls st : List Value) (h : aH) (k s : Nat) : Rn (aLk T23 σ) g 5 ls st h k s = (i_aload 0 6) g (Rn (aLk T23 σ) g) ls st h k s := Rn.go mo23 rfl g ls st h k s
theorem r23_6 (σ : Nat → Value) (g : aG) (ls st : List Value) (h : aH) (k s : Nat) : Rn (aLk T23 σ) g 6 ls st h k s = (i_putf 12 0 (.object "java/lang/Throwable") 9) g (Rn (aLk T23 σ) g) ls st h k s := Rn.go mo23 rfl g ls st h k s
theorem r23_9 (σ : Nat → Value) (g : aG) (ls st : List Value) (h : aH) (k s : Nat) : Rn (aLk T23 σ) g 9 ls st h k s = (i_aload 0 10) g (Rn (aLk T23 σ) g) ls st h k s := Rn.go mo23 rfl g ls st h k s
theorem r23_10 (σ : Nat → Value) (g : aG) (ls st : List Value) (h : aH) (k s : Nat) : Rn (aLk T23 σ) g 10 ls st h k s = (i_push (σ 10) 13) g (Rn (aLk T23 σ) g) ls st h k s := Rn.go mo23 rfl g ls st h k s
theorem r23_13 (σ : Nat → Value) (g : aG) (ls st : List Value) (h : aH) (k s : Nat) : Rn (aLk T23 σ) g 13 ls st h k s = (i_putf 12 1 (.array (.object "java/lang/StackTraceElement")) 16) g (Rn (aLk T23 σ) g) ls st h k s := Rn.go mo23 rfl g ls st h k s
theorem r23_16 (σ : Nat → Value) (g : aG) (ls st : List Value) (h : aH) (k s : Nat) : Rn (aLk T23 σ) g 16 ls st h k s = (i_aload 0 17) g (Rn (aLk T23 σ) g) ls st h k s := Rn.go mo23 rfl g ls st h k s
theorem r23_17 (σ : Nat → Value) (g : aG) (ls st : List Value) (h : aH) (k s : Nat) : Rn (aLk T23 σ) g 17 ls st h k s = (i_push (σ 11) 20) g (Rn (aLk T23 σ) g) ls st h k s := Rn.go mo23 rfl g ls st h k s
theorem r23_20 (σ : Nat → Value) (g : aG) (ls st : List Value) (h : aH) (k s : Nat) : Rn (aLk T23 σ) g 20 ls st h k s = (i_putf 12 2 (.object "java/util/List") 23) g (Rn (aLk T23 σ) g) ls st h k s := Rn.go mo23 rfl g ls st h k s
theorem r23_23 (σ : Nat → Value) (g : aG) (ls st : List Value) (h : aH) (k s : Nat) : Rn (aLk T23 σ) g 23 ls st h k s = (i_iload 4 25) g (Rn (aLk T23 σ) g) ls st h k s := Rn.go mo23 rfl g ls st h k s
theorem r23_25 (σ : Nat → Value) (g : aG) (ls st : List Value) (h : aH) (k s : Nat) : Rn (aLk T23 σ) g 25 ls st h k s = (i_ifeq 36 28) g (Rn (aLk T23 σ) g) ls st h k s := Rn.go mo23 rfl g ls st h k s
theorem r23_28 (σ : Nat → Value) (g : aG) (ls st : List Value) (h : aH) (k s : Nat) : Rn (aLk T23 σ) g 28 ls st h k s = (i_aload 0 29) g (Rn (aLk T23 σ) g) ls st h k s := Rn.go mo23 rfl g ls st h k s
theorem r23_32 (σ : Nat → Value) (g : aG) (ls st : List Value) (h : aH) (k s : Nat) : Rn (aLk T23 σ) g 32 ls st h k s = (i_op o_pop 33) g (Rn (aLk T23 σ) g) ls st h k s := Rn.go mo23 rfl g ls st h k s
theorem r23_33 (σ : Nat → Value) (g : aG) (ls st : List Value) (h : aH) (k s : Nat) : Rn (aLk T23 σ) g 33 ls st h k s = (i_goto 41) g (Rn (aLk T23 σ) g) ls st h k s := Rn.go mo23 rfl g ls st h k s
theorem r23_36 (σ : Nat → Value) (g : aG) (ls st : List Value) (h : aH) (k s : Nat) : Rn (aLk T23 σ) g 36 ls st h k s = (i_aload 0 37) g (Rn (aLk T23 σ) g) ls st h k s := Rn.go mo23 rfl g ls st h k s
theorem r23_37 (σ : Nat → Value) (g : aG) (ls st : List Value) (h : aH) (k s : Nat) : Rn (aLk T23 σ) g 37 ls st h k s = (i_op o_null 38) g (Rn (aLk T23 σ) g) ls st h k s := Rn.go mo23 rfl g ls st h k s
theorem r23_38 (σ : Nat → Value) (g : aG) (ls st : List Value) (h : aH) (k s : Nat) : Rn (aLk T23 σ) g 38 ls st h k s = (i_putf 12 1 (.array (.object "java/lang/StackTraceElement")) 41) g (Rn (aLk T23 σ) g) ls st h k s := Rn.go mo23 rfl g ls st h k s
theorem r23_41 (σ : Nat → Value) (g : aG) (ls st : List Value) (h : aH) (k s : Nat) : Rn (aLk T23 σ) g 41 ls st h k s = (i_aload 0 42) g (Rn (aLk T23 σ) g) ls st h k s := Rn.go mo23 rfl g ls st h k s
theorem r23_42 (σ : Nat → Value) (g : aG) (ls st : List Value) (h : aH) (k s : Nat) : Rn (aLk T23 σ) g 42 ls st h k s = (i_aload 1 43) g (Rn (aLk T23 σ) g) ls st h k s := Rn.go mo23 rfl g ls st h k s
theorem r23_43 (σ : Nat → Value) (g : aG) (ls st : List Value) (h : aH) (k s : Nat) : Rn (aLk T23 σ) g 43 ls st h k s = (i_putf 12 3 (.object "java/lang/String") 46) g (Rn (aLk T23 σ) g) ls st h k s := Rn.go mo23 rfl g ls st h k s
theorem r23_46 (σ : Nat → Value) (g : aG) (ls st : List Value) (h : aH) (k s : Nat) : Rn (aLk T23 σ) g 46 ls st h k s = (i_aload 0 47) g (Rn (aLk T23 σ) g) ls st h k s := Rn.go mo23 rfl g ls st h k s
theorem r23_47 (σ : Nat → Value) (g : aG) (ls st : List Value) (h : aH) (k s : Nat) : Rn (aLk T23 σ) g 47 ls st h k s = (i_aload 2 48) g (Rn (aLk T23 σ) g) ls st h k s := Rn.go mo23 rfl g ls st h k s
theorem r23_48 (σ : Nat → Value) (g : aG) (ls st : List Value) (h : aH) (k s : Nat) : Rn (aLk T23 σ) g 48 ls st h k s = (i_putf 12 0 (.object "java/lang/Throwable") 51) g (Rn (aLk T23 σ) g) ls st h k s := Rn.go mo23 rfl g ls st h k s
theorem r23_51 (σ : Nat → Value) (g : aG) (ls st : List Value) (h : aH) (k s : Nat) : Rn (aLk T23 σ) g 51 ls st h k s = (i_iload 3 52) g (Rn (aLk T23 σ) g) ls st h k s := Rn.go mo23 rfl g ls st h k s
theorem r23_52 (σ : Nat → Value) (g : aG) (ls st : List Value) (h : aH) (k s : Nat) : Rn (aLk T23 σ) g 52 ls st h k s = (i_ifne 60 55) g (Rn (aLk T23 σ) g) ls st h k s := Rn.go mo23 rfl g ls st h k s
theorem r23_55 (σ : Nat → Value) (g : aG) (ls st : List Value) (h : aH) (k s : Nat) : Rn (aLk T23 σ) g 55 ls st h k s = (i_aload 0 56) g (Rn (aLk T23 σ) g) ls st h k s := Rn.go mo23 rfl g ls st h k s
theorem r23_56 (σ : Nat → Value) (g : aG) (ls st : List Value) (h : aH) (k s : Nat) : Rn (aLk T23 σ) g 56 ls st h k s = (i_op o_null 57) g (Rn (aLk T23 σ) g) ls st h k s := Rn.go mo23 rfl g ls st h k s
theorem r23_57 (σ : Nat → Value) (g : aG) (ls st : List Value) (h : aH) (k s : Nat) : Rn (aLk T23 σ) g 57 ls st h k s = (i_putf 12 2 (.object "java/util/List") 60) g (Rn (aLk T23 σ) g) ls st h k s := Rn.go mo23 rfl g ls st h k s
theorem r23_60 (σ : Nat → Value) (g : aG) (ls st : List Value) (h : aH) (k s : Nat) : Rn (aLk T23 σ) g 60 ls st h k s = (i_ret) g (Rn (aLk T23 σ) g) ls st h k s := Rn.go mo23 rfl g ls st h k s
theorem r24_0 (σ : Nat → Value) (g : aG) (ls st : List Value) (h : aH) (k s : Nat) : Rn (aLk T24 σ) g 0 ls st h k s = (i_aload 0 1) g (Rn (aLk T24 σ) g) ls st h k s := Rn.go mo24 rfl g ls st h k s
theorem r24_1 (σ : Nat → Value) (g : aG) (ls st : List Value) (h : aH) (k s : Nat) : Rn (aLk T24 σ) g 1 ls st h k s = (i_oinit 4) g (Rn (aLk T24 σ) g) ls st h k s := Rn.go mo24 rfl g ls st h k s
theorem r24_4 (σ : Nat → Value) (g : aG) (ls st : List Value) (h : aH) (k s : Nat) : Rn (aLk T24 σ) g 4 ls st h k s = (i_ret) g (Rn (aLk T24 σ) g) ls st h k s := Rn.go mo24 rfl g ls st h k s
theorem r25_0 (σ : Nat → Value) (g : aG) (ls st : List Value) (h : aH) (k s : Nat) : Rn (aLk T25 σ) g 0 ls st h k s = (i_aload 0 1) g (Rn (aLk T25 σ) g) ls st h k s := Rn.go mo25 rfl g ls st h k s
theorem r25_1 (σ : Nat → Value) (g : aG) (ls st : List Value) (h : aH) (k s : Nat) : Rn (aLk T25 σ) g 1 ls st h k s = (i_callV [(6, 96)] 0 [] 4) g (Rn (aLk T25 σ) g) ls st h k s := Rn.go mo25 rfl g ls st h k s
theorem r25_4 (σ : Nat → Value) (g : aG) (ls st : List Value) (h : aH) (k s : Nat) : Rn (aLk T25 σ) g 4 ls st h k s = (i_ifne 11 7) g (Rn (aLk T25 σ) g) ls st h k s := Rn.go mo25 rfl g ls st h k s
theorem r25_7 (σ : Nat → Value) (g : aG) (ls st : List Value) (h : aH) (k s : Nat) : Rn (aLk T25 σ) g 7 ls st h k s = (i_op (o_int 1) 8) g (Rn (aLk T25 σ) g) ls st h k s := Rn.go mo25 rfl g ls st h k s
theorem r25_8 (σ : Nat → Value) (g : aG) (ls st : List Value) (h : aH) (k s : Nat) : Rn (aLk T25 σ) g 8 ls st h k s = (i_goto 12) g (Rn (aLk T25 σ) g) ls st h k s := Rn.go mo25 rfl g ls st h k s
theorem r25_11 (σ : Nat → Value) (g : aG) (ls st : List Value) (h : aH) (k s : Nat) : Rn (aLk T25 σ) g 11 ls st h k s = (i_op (o_int 0) 12) g (Rn (aLk T25 σ) g) ls st h k s := Rn.go mo25 rfl g ls st h k s
theorem r25_12 (σ : Nat → Value) (g : aG) (ls st : List Value) (h : aH) (k s : Nat) : Rn (aLk T25 σ) g 12 ls st h k s = (i_iret .boolean) g (Rn (aLk T25 σ) g) ls st h k s := Rn.go mo25 rfl g ls st h k s
theorem r26_0 (σ : Nat → Value) (g : aG) (ls st : List Value) (h : aH) (k s : Nat) : Rn (aLk T26 σ) g 0 ls st h k s = (i_aload 0 1) g (Rn (aLk T26 σ) g) ls st h k s := Rn.go mo26 rfl g ls st h k s
theorem r26_1 (σ : Nat → Value) (g : aG) (ls st : List Value) (h : aH) (k s : Nat) : Rn (aLk T26 σ) g 1 ls st h k s = (i_callI 24 0 [] 4) g (Rn (aLk T26 σ) g) ls st h k s := Rn.go mo26 rfl g ls st h k s
theorem r26_4 (σ : Nat → Value) (g : aG) (ls st : List Value) (h : aH) (k s : Nat) : Rn (aLk T26 σ) g 4 ls st h k s = (i_aload 0 5) g (Rn (aLk T26 σ) g) ls st h k s := Rn.go mo26 rfl g ls st h k s
theorem r26_5 (σ : Nat → Value) (g : aG) (ls st : List Value) (h : aH) (k s : Nat) : Rn (aLk T26 σ) g 5 ls st h k s = (i_op (o_int 0) 6) g (Rn (aLk T26 σ) g) ls st h k s := Rn.go mo26 rfl g ls st h k s
theorem r26_6 (σ : Nat → Value) (g : aG) (ls st : List Value) (h : aH) (k s : Nat) : Rn (aLk T26 σ) g 6 ls st h k s = (i_putf 0 0 .int 9) g (Rn (aLk T26 σ) g) ls st h k s := Rn.go mo26 rfl g ls st h k s
theorem r26_9 (σ : Nat → Value) (g : aG) (ls st : List Value) (h : aH) (k s : Nat) : Rn (aLk T26 σ) g 9 ls st h k s = (i_ret) g (Rn (aLk T26 σ) g) ls st h k s := Rn.go mo26 rfl g ls st h k s
theorem r27_0 (σ : Nat → Value) (g : aG) (ls st : List Value) (h : aH) (k s : Nat) : Rn (aLk T27 σ) g 0 ls st h k s = (i_aload 0 1) g (Rn (aLk T27 σ) g) ls st h k s := Rn.go mo27 rfl g ls st h k s
theorem r27_1 (σ : Nat → Value) (g : aG) (ls st : List Value) (h : aH) (k s : Nat) : Rn (aLk T27 σ) g 1 ls st h k s = (i_oinit 4) g (Rn (aLk T27 σ) g) ls st h k s := Rn.go mo27 rfl g ls st h k s
theorem r27_4 (σ : Nat → Value) (g : aG) (ls st : List Value) (h : aH) (k s : Nat) : Rn (aLk T27 σ) g 4 ls st h k s = (i_ret) g (Rn (aLk T27 σ) g) ls st h k s := Rn.go mo27 rfl g ls st h k s
theorem r28_0 (σ : Nat → Value) (g : aG) (ls st : List Value) (h : aH) (k s : Nat) : Rn (aLk T28 σ) g 0 ls st h k s = (i_aload 0 1) g (Rn (aLk T28 σ) g) ls st h k s := Rn.go mo28 rfl g ls st h k s
theorem r28_1 (σ : Nat → Value) (g : aG) (ls st : List Value) (h : aH) (k s : Nat) : Rn (aLk T28 σ) g 1 ls st h k s = (i_callI 24 0 [] 4) g (Rn (aLk T28 σ) g) ls st h k s := Rn.go mo28 rfl g ls st h k s
theorem r28_4 (σ : Nat → Value) (g : aG) (ls st : List Value) (h : aH) (k s : Nat) : Rn (aLk T28 σ) g 4 ls st h k s = (i_ret) g (Rn (aLk T28 σ) g) ls st h k s := Rn.go mo28 rfl g ls st h k s
theorem r29_0 (σ : Nat → Value) (g : aG) (ls st : List Value) (h : aH) (k s : Nat) : Rn (aLk T29 σ) g 0 ls st h k s = (i_aload 0 1) g (Rn (aLk T29 σ) g) ls st h k s := Rn.go mo29 rfl g ls st h k s
theorem r29_1 (σ : Nat → Value) (g : aG) (ls st : List Value) (h : aH) (k s : Nat) : Rn (aLk T29 σ) g 1 ls st h k s = (i_callI 24 0 [] 4) g (Rn (aLk T29 σ) g) ls st h k s := Rn.go mo29 rfl g ls st h k s
theorem r29_4 (σ : Nat → Value) (g : aG) (ls st : List Value) (h : aH) (k s : Nat) : Rn (aLk T29 σ) g 4 ls st h k s = (i_ret) g (Rn (aLk T29 σ) g) ls st h k s := Rn.go mo29 rfl g ls st h k s
theorem r30_0 (σ : Nat → Value) (g : aG) (ls st : List Value) (h : aH) (k s : Nat) : Rn (aLk T30 σ) g 0 ls st h k s = (i_aload 0 1) g (Rn (aLk T30 σ) g) ls st h k s := Rn.go mo30 rfl g ls st h k s
theorem r30_1 (σ : Nat → Value) (g : aG) (ls st : List Value) (h : aH) (k s : Nat) : Rn (aLk T30 σ) g 1 ls st h k s = (i_callI 24 0 [] 4) g (Rn (aLk T30 σ) g) ls st h k s := Rn.go mo30 rfl g ls st h k s
theorem r30_4 (σ : Nat → Value) (g : aG) (ls st : List Value) (h : aH) (k s : Nat) : Rn (aLk T30 σ) g 4 ls st h k s = (i_aload 0 5) g (Rn (aLk T30 σ) g) ls st h k s := Rn.go mo30 rfl g ls st h k s
theorem r30_5 (σ : Nat → Value) (g : aG) (ls st : List Value) (h : aH) (k s : Nat) : Rn (aLk T30 σ) g 5 ls st h k s = (i_op (o_int 17) 7) g (Rn (aLk T30 σ) g) ls st h k s := Rn.go mo30 rfl g ls st h k s
theorem r30_7 (σ : Nat → Value) (g : aG) (ls st : List Value) (h : aH) (k s : Nat) : Rn (aLk T30 σ) g 7 ls st h k s = (i_newa 4 (.inr (.inr (.inr (.inr fun _ => none)))) 4 10) g (Rn (aLk T30 σ) g) ls st h k s := Rn.go mo30 rfl g ls st h k s
theorem r30_10 (σ : Nat → Value) (g : aG) (ls st : List Value) (h : aH) (k s : Nat) : Rn (aLk T30 σ) g 10 ls st h k s = (i_putf 4 0 (.array (.object "java/lang/Object")) 13) g (Rn (aLk T30 σ) g) ls st h k s := Rn.go mo30 rfl g ls st h k s
theorem r30_13 (σ : Nat → Value) (g : aG) (ls st : List Value) (h : aH) (k s : Nat) : Rn (aLk T30 σ) g 13 ls st h k s = (i_ret) g (Rn (aLk T30 σ) g) ls st h k s := Rn.go mo30 rfl g ls st h k s
theorem r31_0 (σ : Nat → Value) (g : aG) (ls st : List Value) (h : aH) (k s : Nat) : Rn (aLk T31 σ) g 0 ls st h k s = (i_aload 1 1) g (Rn (aLk T31 σ) g) ls st h k s := Rn.go mo31 rfl g ls st h k s
theorem r31_1 (σ : Nat → Value) (g : aG) (ls st : List Value) (h : aH) (k s : Nat) : Rn (aLk T31 σ) g 1 ls st h k s = (i_nnull 12 4) g (Rn (aLk T31 σ) g) ls st h k s := Rn.go mo31 rfl g ls st h k s
theorem r31_7 (σ : Nat → Value) (g : aG) (ls st : List Value) (h : aH) (k s : Nat) : Rn (aLk T31 σ) g 7 ls st h k s = (i_op o_dup 8) g (Rn (aLk T31 σ) g) ls st h k s := Rn.go mo31 rfl g ls st h k s
theorem r31_12 (σ : Nat → Value) (g : aG) (ls st : List Value) (h : aH) (k s : Nat) : Rn (aLk T31 σ) g 12 ls st h k s = (i_aload 0 13) g (Rn (aLk T31 σ) g) ls st h k s := Rn.go mo31 rfl g ls st h k s
theorem r31_13 (σ : Nat → Value) (g : aG) (ls st : List Value) (h : aH) (k s : Nat) : Rn (aLk T31 σ) g 13 ls st h k s = (i_getf 4 0 16) g (Rn (aLk T31 σ) g) ls st h k s := Rn.go mo31 rfl g ls st h k s
theorem r31_16 (σ : Nat → Value) (g : aG) (ls st : List Value) (h : aH) (k s : Nat) : Rn (aLk T31 σ) g 16 ls st h k s = (i_astore 2 17) g (Rn (aLk T31 σ) g) ls st h k s := Rn.go mo31 rfl g ls st h k s
theorem r31_17 (σ : Nat → Value) (g : aG) (ls st : List Value) (h : aH) (k s : Nat) : Rn (aLk T31 σ) g 17 ls st h k s = (i_aload 2 18) g (Rn (aLk T31 σ) g) ls st h k s := Rn.go mo31 rfl g ls st h k s
theorem r31_18 (σ : Nat → Value) (g : aG) (ls st : List Value) (h : aH) (k s : Nat) : Rn (aLk T31 σ) g 18 ls st h k s = (i_aload 0 19) g (Rn (aLk T31 σ) g) ls st h k s := Rn.go mo31 rfl g ls st h k s
theorem r31_19 (σ : Nat → Value) (g : aG) (ls st : List Value) (h : aH) (k s : Nat) : Rn (aLk T31 σ) g 19 ls st h k s = (i_getf 4 2 22) g (Rn (aLk T31 σ) g) ls st h k s := Rn.go mo31 rfl g ls st h k s
theorem r31_22 (σ : Nat → Value) (g : aG) (ls st : List Value) (h : aH) (k s : Nat) : Rn (aLk T31 σ) g 22 ls st h k s = (i_aload 1 23) g (Rn (aLk T31 σ) g) ls st h k s := Rn.go mo31 rfl g ls st h k s
theorem r31_23 (σ : Nat → Value) (g : aG) (ls st : List Value) (h : aH) (k s : Nat) : Rn (aLk T31 σ) g 23 ls st h k s = (i_aast 24) g (Rn (aLk T31 σ) g) ls st h k s := Rn.go mo31 rfl g ls st h k s
theorem r31_24 (σ : Nat → Value) (g : aG) (ls st : List Value) (h : aH) (k s : Nat) : Rn (aLk T31 σ) g 24 ls st h k s = (i_aload 0 25) g (Rn (aLk T31 σ) g) ls st h k s := Rn.go mo31 rfl g ls st h k s
theorem r31_25 (σ : Nat → Value) (g : aG) (ls st : List Value) (h : aH) (k s : Nat) : Rn (aLk T31 σ) g 25 ls st h k s = (i_getf 4 1 28) g (Rn (aLk T31 σ) g) ls st h k s := Rn.go mo31 rfl g ls st h k s
theorem r31_28 (σ : Nat → Value) (g : aG) (ls st : List Value) (h : aH) (k s : Nat) : Rn (aLk T31 σ) g 28 ls st h k s = (i_aload 0 29) g (Rn (aLk T31 σ) g) ls st h k s := Rn.go mo31 rfl g ls st h k s
theorem r31_29 (σ : Nat → Value) (g : aG) (ls st : List Value) (h : aH) (k s : Nat) : Rn (aLk T31 σ) g 29 ls st h k s = (i_aload 0 30) g (Rn (aLk T31 σ) g) ls st h k s := Rn.go mo31 rfl g ls st h k s
theorem r31_30 (σ : Nat → Value) (g : aG) (ls st : List Value) (h : aH) (k s : Nat) : Rn (aLk T31 σ) g 30 ls st h k s = (i_getf 4 2 33) g (Rn (aLk T31 σ) g) ls st h k s := Rn.go mo31 rfl g ls st h k s
theorem r31_33 (σ : Nat → Value) (g : aG) (ls st : List Value) (h : aH) (k s : Nat) : Rn (aLk T31 σ) g 33 ls st h k s = (i_aload 2 34) g (Rn (aLk T31 σ) g) ls st h k s := Rn.go mo31 rfl g ls st h k s
theorem r31_34 (σ : Nat → Value) (g : aG) (ls st : List Value) (h : aH) (k s : Nat) : Rn (aLk T31 σ) g 34 ls st h k s = (i_alen 35) g (Rn (aLk T31 σ) g) ls st h k s := Rn.go mo31 rfl g ls st h k s
theorem r31_35 (σ : Nat → Value) (g : aG) (ls st : List Value) (h : aH) (k s : Nat) : Rn (aLk T31 σ) g 35 ls st h k s = (i_callS 37 2 [] 38) g (Rn (aLk T31 σ) g) ls st h k s := Rn.go mo31 rfl g ls st h k s
theorem r31_38 (σ : Nat → Value) (g : aG) (ls st : List Value) (h : aH) (k s : Nat) : Rn (aLk T31 σ) g 38 ls st h k s = (i_op o_dup_x1 39) g (Rn (aLk T31 σ) g) ls st h k s := Rn.go mo31 rfl g ls st h k s
theorem r31_39 (σ : Nat → Value) (g : aG) (ls st : List Value) (h : aH) (k s : Nat) : Rn (aLk T31 σ) g 39 ls st h k s = (i_putf 4 2 .int 42) g (Rn (aLk T31 σ) g) ls st h k s := Rn.go mo31 rfl g ls st h k s
theorem r31_42 (σ : Nat → Value) (g : aG) (ls st : List Value) (h : aH) (k s : Nat) : Rn (aLk T31 σ) g 42 ls st h k s = (i_cne 50 45) g (Rn (aLk T31 σ) g) ls st h k s := Rn.go mo31 rfl g ls st h k s
theorem r31_45 (σ : Nat → Value) (g : aG) (ls st : List Value) (h : aH) (k s : Nat) : Rn (aLk T31 σ) g 45 ls st h k s = (i_aload 0 46) g (Rn (aLk T31 σ) g) ls st h k s := Rn.go mo31 rfl g ls st h k s
theorem r31_46 (σ : Nat → Value) (g : aG) (ls st : List Value) (h : aH) (k s : Nat) : Rn (aLk T31 σ) g 46 ls st h k s = (i_op (o_int 1) 47) g (Rn (aLk T31 σ) g) ls st h k s := Rn.go mo31 rfl g ls st h k s
theorem r31_47 (σ : Nat → Value) (g : aG) (ls st : List Value) (h : aH) (k s : Nat) : Rn (aLk T31 σ) g 47 ls st h k s = (i_callV [(4, 36)] 1 [] 50) g (Rn (aLk T31 σ) g) ls st h k s := Rn.go mo31 rfl g ls st h k s
theorem r31_50 (σ : Nat → Value) (g : aG) (ls st : List Value) (h : aH) (k s : Nat) : Rn (aLk T31 σ) g 50 ls st h k s = (i_ret) g (Rn (aLk T31 σ) g) ls st h k s := Rn.go mo31 rfl g ls st h k s
theorem r32_0 (σ : Nat → Value) (g : aG) (ls st : List Value) (h : aH) (k s : Nat) : Rn (aLk T32 σ) g 0 ls st h k s = (i_iload 1 1) g (Rn (aLk T32 σ) g) ls st h k s := Rn.go mo32 rfl g ls st h k s
theorem r32_1 (σ : Nat → Value) (g : aG) (ls st : List Value) (h : aH) (k s : Nat) : Rn (aLk T32 σ) g 1 ls st h k s = (i_iload 2 2) g (Rn (aLk T32 σ) g) ls st h k s := Rn.go mo32 rfl g ls st h k s
theorem r32_2 (σ : Nat → Value) (g : aG) (ls st : List Value) (h : aH) (k s : Nat) : Rn (aLk T32 σ) g 2 ls st h k s = (i_cgt 9 5) g (Rn (aLk T32 σ) g) ls st h k s := Rn.go mo32 rfl g ls st h k s
theorem r32_5 (σ : Nat → Value) (g : aG) (ls st : List Value) (h : aH) (k s : Nat) : Rn (aLk T32 σ) g 5 ls st h k s = (i_iload 2 6) g (Rn (aLk T32 σ) g) ls st h k s := Rn.go mo32 rfl g ls st h k s
theorem r32_6 (σ : Nat → Value) (g : aG) (ls st : List Value) (h : aH) (k s : Nat) : Rn (aLk T32 σ) g 6 ls st h k s = (i_goto 11) g (Rn (aLk T32 σ) g) ls st h k s := Rn.go mo32 rfl g ls st h k s
theorem r32_9 (σ : Nat → Value) (g : aG) (ls st : List Value) (h : aH) (k s : Nat) : Rn (aLk T32 σ) g 9 ls st h k s = (i_aload 0 10) g (Rn (aLk T32 σ) g) ls st h k s := Rn.go mo32 rfl g ls st h k s
theorem r32_10 (σ : Nat → Value) (g : aG) (ls st : List Value) (h : aH) (k s : Nat) : Rn (aLk T32 σ) g 10 ls st h k s = (i_alen 11) g (Rn (aLk T32 σ) g) ls st h k s := Rn.go mo32 rfl g ls st h k s
theorem r32_11 (σ : Nat → Value) (g : aG) (ls st : List Value) (h : aH) (k s : Nat) : Rn (aLk T32 σ) g 11 ls st h k s = (i_istore 3 12) g (Rn (aLk T32 σ) g) ls st h k s := Rn.go mo32 rfl g ls st h k s
theorem r32_12 (σ : Nat → Value) (g : aG) (ls st : List Value) (h : aH) (k s : Nat) : Rn (aLk T32 σ) g 12 ls st h k s = (i_iload 1 13) g (Rn (aLk T32 σ) g) ls st h k s := Rn.go mo32 rfl g ls st h k s
theorem r32_13 (σ : Nat → Value) (g : aG) (ls st : List Value) (h : aH) (k s : Nat) : Rn (aLk T32 σ) g 13 ls st h k s = (i_iload 3 14) g (Rn (aLk T32 σ) g) ls st h k s := Rn.go mo32 rfl g ls st h k s
theorem r32_14 (σ : Nat → Value) (g : aG) (ls st : List Value) (h : aH) (k s : Nat) : Rn (aLk T32 σ) g 14 ls st h k s = (i_cge 27 17) g (Rn (aLk T32 σ) g) ls st h k s := Rn.go mo32 rfl g ls st h k s
theorem r32_17 (σ : Nat → Value) (g : aG) (ls st : List Value) (h : aH) (k s : Nat) : Rn (aLk T32 σ) g 17 ls st h k s = (i_aload 0 18) g (Rn (aLk T32 σ) g) ls st h k s := Rn.go mo32 rfl g ls st h k s
theorem r32_18 (σ : Nat → Value) (g : aG) (ls st : List Value) (h : aH) (k s : Nat) : Rn (aLk T32 σ) g 18 ls st h k s = (i_iload 1 19) g (Rn (aLk T32 σ) g) ls st h k s := Rn.go mo32 rfl g ls st h k s
theorem r32_19 (σ : Nat → Value) (g : aG) (ls st : List Value) (h : aH) (k s : Nat) : Rn (aLk T32 σ) g 19 ls st h k s = (i_op o_null 20) g (Rn (aLk T32 σ) g) ls st h k s := Rn.go mo32 rfl g ls st h k s
theorem r32_20 (σ : Nat → Value) (g : aG) (ls st : List Value) (h : aH) (k s : Nat) : Rn (aLk T32 σ) g 20 ls st h k s = (i_aast 21) g (Rn (aLk T32 σ) g) ls st h k s := Rn.go mo32 rfl g ls st h k s
theorem r32_21 (σ : Nat → Value) (g : aG) (ls st : List Value) (h : aH) (k s : Nat) : Rn (aLk T32 σ) g 21 ls st h k s = (i_iinc 1 1 24) g (Rn (aLk T32 σ) g) ls st h k s := Rn.go mo32 rfl g ls st h k s
theorem r32_24 (σ : Nat → Value) (g : aG) (ls st : List Value) (h : aH) (k s : Nat) : Rn (aLk T32 σ) g 24 ls st h k s = (i_goto 12) g (Rn (aLk T32 σ) g) ls st h k s := Rn.go mo32 rfl g ls st h k s
theorem r32_27 (σ : Nat → Value) (g : aG) (ls st : List Value) (h : aH) (k s : Nat) : Rn (aLk T32 σ) g 27 ls st h k s = (i_iload 3 28) g (Rn (aLk T32 σ) g) ls st h k s := Rn.go mo32 rfl g ls st h k s
theorem r32_28 (σ : Nat → Value) (g : aG) (ls st : List Value) (h : aH) (k s : Nat) : Rn (aLk T32 σ) g 28 ls st h k s = (i_iload 2 29) g (Rn (aLk T32 σ) g) ls st h k s := Rn.go mo32 rfl g ls st h k s
theorem r32_29 (σ : Nat → Value) (g : aG) (ls st : List Value) (h : aH) (k s : Nat) : Rn (aLk T32 σ) g 29 ls st h k s = (i_cne 35 32) g (Rn (aLk T32 σ) g) ls st h k s := Rn.go mo32 rfl g ls st h k s
theorem r32_32 (σ : Nat → Value) (g : aG) (ls st : List Value) (h : aH) (k s : Nat) : Rn (aLk T32 σ) g 32 ls st h k s = (i_goto 42) g (Rn (aLk T32 σ) g) ls st h k s := Rn.go mo32 rfl g ls st h k s
theorem r32_35 (σ : Nat → Value) (g : aG) (ls st : List Value) (h : aH) (k s : Nat) : Rn (aLk T32 σ) g 35 ls st h k s = (i_op (o_int 0) 36) g (Rn (aLk T32 σ) g) ls st h k s := Rn.go mo32 rfl g ls st h k s
theorem r32_36 (σ : Nat → Value) (g : aG) (ls st : List Value) (h : aH) (k s : Nat) : Rn (aLk T32 σ) g 36 ls st h k s = (i_istore 1 37) g (Rn (aLk T32 σ) g) ls st h k s := Rn.go mo32 rfl g ls st h k s
theorem r32_37 (σ : Nat → Value) (g : aG) (ls st : List Value) (h : aH) (k s : Nat) : Rn (aLk T32 σ) g 37 ls st h k s = (i_iload 2 38) g (Rn (aLk T32 σ) g) ls st h k s := Rn.go mo32 rfl g ls st h k s
theorem r32_38 (σ : Nat → Value) (g : aG) (ls st : List Value) (h : aH) (k s : Nat) : Rn (aLk T32 σ) g 38 ls st h k s = (i_istore 3 39) g (Rn (aLk T32 σ) g) ls st h k s := Rn.go mo32 rfl g ls st h k s
theorem r32_39 (σ : Nat → Value) (g : aG) (ls st : List Value) (h : aH) (k s : Nat) : Rn (aLk T32 σ) g 39 ls st h k s = (i_goto 12) g (Rn (aLk T32 σ) g) ls st h k s := Rn.go mo32 rfl g ls st h k s
theorem r32_42 (σ : Nat → Value) (g : aG) (ls st : List Value) (h : aH) (k s : Nat) : Rn (aLk T32 σ) g 42 ls st h k s = (i_ret) g (Rn (aLk T32 σ) g) ls st h k s := Rn.go mo32 rfl g ls st h k s
theorem r33_0 (σ : Nat → Value) (g : aG) (ls st : List Value) (h : aH) (k s : Nat) : Rn (aLk T33 σ) g 0 ls st h k s = (i_aload 0 1) g (Rn (aLk T33 σ) g) ls st h k s := Rn.go mo33 rfl g ls st h k s
theorem r33_1 (σ : Nat → Value) (g : aG) (ls st : List Value) (h : aH) (k s : Nat) : Rn (aLk T33 σ) g 1 ls st h k s = (i_getf 4 0 4) g (Rn (aLk T33 σ) g) ls st h k s := Rn.go mo33 rfl g ls st h k s
theorem r33_4 (σ : Nat → Value) (g : aG) (ls st : List Value) (h : aH) (k s : Nat) : Rn (aLk T33 σ) g 4 ls st h k s = (i_aload 0 5) g (Rn (aLk T33 σ) g) ls st h k s := Rn.go mo33 rfl g ls st h k s
theorem r33_5 (σ : Nat → Value) (g : aG) (ls st : List Value) (h : aH) (k s : Nat) : Rn (aLk T33 σ) g 5 ls st h k s = (i_getf 4 1 8) g (Rn (aLk T33 σ) g) ls st h k s := Rn.go mo33 rfl g ls st h k s
theorem r33_8 (σ : Nat → Value) (g : aG) (ls st : List Value) (h : aH) (k s : Nat) : Rn (aLk T33 σ) g 8 ls st h k s = (i_aload 0 9) g (Rn (aLk T33 σ) g) ls st h k s := Rn.go mo33 rfl g ls st h k s
theorem r33_9 (σ : Nat → Value) (g : aG) (ls st : List Value) (h : aH) (k s : Nat) : Rn (aLk T33 σ) g 9 ls st h k s = (i_getf 4 2 12) g (Rn (aLk T33 σ) g) ls st h k s := Rn.go mo33 rfl g ls st h k s
theorem r33_12 (σ : Nat → Value) (g : aG) (ls st : List Value) (h : aH) (k s : Nat) : Rn (aLk T33 σ) g 12 ls st h k s = (i_callS 32 3 [] 15) g (Rn (aLk T33 σ) g) ls st h k s := Rn.go mo33 rfl g ls st h k s
theorem r33_15 (σ : Nat → Value) (g : aG) (ls st : List Value) (h : aH) (k s : Nat) : Rn (aLk T33 σ) g 15 ls st h k s = (i_aload 0 16) g (Rn (aLk T33 σ) g) ls st h k s := Rn.go mo33 rfl g ls st h k s
theorem r33_16 (σ : Nat → Value) (g : aG) (ls st : List Value) (h : aH) (k s : Nat) : Rn (aLk T33 σ) g 16 ls st h k s = (i_aload 0 17) g (Rn (aLk T33 σ) g) ls st h k s := Rn.go mo33 rfl g ls st h k s
theorem r33_17 (σ : Nat → Value) (g : aG) (ls st : List Value) (h : aH) (k s : Nat) : Rn (aLk T33 σ) g 17 ls st h k s = (i_op (o_int 0) 18) g (Rn (aLk T33 σ) g) ls st h k s := Rn.go mo33 rfl g ls st h k s
theorem r33_18 (σ : Nat → Value) (g : aG) (ls st : List Value) (h : aH) (k s : Nat) : Rn (aLk T33 σ) g 18 ls st h k s = (i_op o_dup_x1 19) g (Rn (aLk T33 σ) g) ls st h k s := Rn.go mo33 rfl g ls st h k s
theorem r33_19 (σ : Nat → Value) (g : aG) (ls st : List Value) (h : aH) (k s : Nat) : Rn (aLk T33 σ) g 19 ls st h k s = (i_putf 4 2 .int 22) g (Rn (aLk T33 σ) g) ls st h k s := Rn.go mo33 rfl g ls st h k s
theorem r33_22 (σ : Nat → Value) (g : aG) (ls st : List Value) (h : aH) (k s : Nat) : Rn (aLk T33 σ) g 22 ls st h k s = (i_putf 4 1 .int 25) g (Rn (aLk T33 σ) g) ls st h k s := Rn.go mo33 rfl g ls st h k s
theorem r33_25 (σ : Nat → Value) (g : aG) (ls st : List Value) (h : aH) (k s : Nat) : Rn (aLk T33 σ) g 25 ls st h k s = (i_ret) g (Rn (aLk T33 σ) g) ls st h k s := Rn.go mo33 rfl g ls st h k s
theorem r34_0 (σ : Nat → Value) (g : aG) (ls st : List Value) (h : aH) (k s : Nat) : Rn (aLk T34 σ) g 0 ls st h k s = (i_iinc 0 (-1) 3) g (Rn (aLk T34 σ) g) ls st h k s := Rn.go mo34 rfl g ls st h k s
theorem r34_3 (σ : Nat → Value) (g : aG) (ls st : List Value) (h : aH) (k s : Nat) : Rn (aLk T34 σ) g 3 ls st h k s = (i_iload 0 4) g (Rn (aLk T34 σ) g) ls st h k s := Rn.go mo34 rfl g ls st h k s
theorem r34_4 (σ : Nat → Value) (g : aG) (ls st : List Value) (h : aH) (k s : Nat) : Rn (aLk T34 σ) g 4 ls st h k s = (i_ifge 11 7) g (Rn (aLk T34 σ) g) ls st h k s := Rn.go mo34 rfl g ls st h k s
theorem r34_7 (σ : Nat → Value) (g : aG) (ls st : List Value) (h : aH) (k s : Nat) : Rn (aLk T34 σ) g 7 ls st h k s = (i_iload 1 8) g (Rn (aLk T34 σ) g) ls st h k s := Rn.go mo34 rfl g ls st h k s
theorem r34_8 (σ : Nat → Value) (g : aG) (ls st : List Value) (h : aH) (k s : Nat) : Rn (aLk T34 σ) g 8 ls st h k s = (i_op (o_int 1) 9) g (Rn (aLk T34 σ) g) ls st h k s := Rn.go mo34 rfl g ls st h k s
theorem r34_9 (σ : Nat → Value) (g : aG) (ls st : List Value) (h : aH) (k s : Nat) : Rn (aLk T34 σ) g 9 ls st h k s = (i_op o_isub 10) g (Rn (aLk T34 σ) g) ls st h k s := Rn.go mo34 rfl g ls st h k s
theorem r34_10 (σ : Nat → Value) (g : aG) (ls st : List Value) (h : aH) (k s : Nat) : Rn (aLk T34 σ) g 10 ls st h k s = (i_istore 0 11) g (Rn (aLk T34 σ) g) ls st h k s := Rn.go mo34 rfl g ls st h k s
theorem r34_11 (σ : Nat → Value) (g : aG) (ls st : List Value) (h : aH) (k s : Nat) : Rn (aLk T34 σ) g 11 ls st h k s = (i_iload 0 12) g (Rn (aLk T34 σ) g) ls st h k s := Rn.go mo34 rfl g ls st h k s
theorem r34_12 (σ : Nat → Value) (g : aG) (ls st : List Value) (h : aH) (k s : Nat) : Rn (aLk T34 σ) g 12 ls st h k s = (i_iret .int) g (Rn (aLk T34 σ) g) ls st h k s := Rn.go mo34 rfl g ls st h k s
theorem r35_0 (σ : Nat → Value) (g : aG) (ls st : List Value) (h : aH) (k s : Nat) : Rn (aLk T35 σ) g 0 ls st h k s = (i_aload 0 1) g (Rn (aLk T35 σ) g) ls st h k s := Rn.go mo35 rfl g ls st h k s
theorem r35_1 (σ : Nat → Value) (g : aG) (ls st : List Value) (h : aH) (k s : Nat) : Rn (aLk T35 σ) g 1 ls st h k s = (i_iload 1 2) g (Rn (aLk T35 σ) g) ls st h k s := Rn.go mo35 rfl g ls st h k s
theorem r35_2 (σ : Nat → Value) (g : aG) (ls st : List Value) (h : aH) (k s : Nat) : Rn (aLk T35 σ) g 2 ls st h k s = (i_aald [4, 5, 6, 7, 1004, 1008, 1009] 3) g (Rn (aLk T35 σ) g) ls st h k s := Rn.go mo35 rfl g ls st h k s
theorem r35_3 (σ : Nat → Value) (g : aG) (ls st : List Value) (h : aH) (k s : Nat) : Rn (aLk T35 σ) g 3 ls st h k s = (i_aret) g (Rn (aLk T35 σ) g) ls st h k s := Rn.go mo35 rfl g ls st h k s
theorem r36_0 (σ : Nat → Value) (g : aG) (ls st : List Value) (h : aH) (k s : Nat) : Rn (aLk T36 σ) g 0 ls st h k s = (i_aload 0 1) g (Rn (aLk T36 σ) g) ls st h k s := Rn.go mo36 rfl g ls st h k s
theorem r36_1 (σ : Nat → Value) (g : aG) (ls st : List Value) (h : aH) (k s : Nat) : Rn (aLk T36 σ) g 1 ls st h k s = (i_getf 4 0 4) g (Rn (aLk T36 σ) g) ls st h k s := Rn.go mo36 rfl g ls st h k s
theorem r36_4 (σ : Nat → Value) (g : aG) (ls st : List Value) (h : aH) (k s : Nat) : Rn (aLk T36 σ) g 4 ls st h k s = (i_alen 5) g (Rn (aLk T36 σ) g) ls st h k s := Rn.go mo36 rfl g ls st h k s
theorem r36_5 (σ : Nat → Value) (g : aG) (ls st : List Value) (h : aH) (k s : Nat) : Rn (aLk T36 σ) g 5 ls st h k s = (i_istore 2 6) g (Rn (aLk T36 σ) g) ls st h k s := Rn.go mo36 rfl g ls st h k s
theorem r36_6 (σ : Nat → Value) (g : aG) (ls st : List Value) (h : aH) (k s : Nat) : Rn (aLk T36 σ) g 6 ls st h k s = (i_iload 2 7) g (Rn (aLk T36 σ) g) ls st h k s := Rn.go mo36 rfl g ls st h k s
theorem r36_7 (σ : Nat → Value) (g : aG) (ls st : List Value) (h : aH) (k s : Nat) : Rn (aLk T36 σ) g 7 ls st h k s = (i_op (o_int 64) 9) g (Rn (aLk T36 σ) g) ls st h k s := Rn.go mo36 rfl g ls st h k s
theorem r36_9 (σ : Nat → Value) (g : aG) (ls st : List Value) (h : aH) (k s : Nat) : Rn (aLk T36 σ) g 9 ls st h k s = (i_cge 18 12) g (Rn (aLk T36 σ) g) ls st h k s := Rn.go mo36 rfl g ls st h k s
theorem r36_12 (σ : Nat → Value) (g : aG) (ls st : List Value) (h : aH) (k s : Nat) : Rn (aLk T36 σ) g 12 ls st h k s = (i_iload 2 13) g (Rn (aLk T36 σ) g) ls st h k s := Rn.go mo36 rfl g ls st h k s
theorem r36_13 (σ : Nat → Value) (g : aG) (ls st : List Value) (h : aH) (k s : Nat) : Rn (aLk T36 σ) g 13 ls st h k s = (i_op (o_int 2) 14) g (Rn (aLk T36 σ) g) ls st h k s := Rn.go mo36 rfl g ls st h k s
theorem r36_14 (σ : Nat → Value) (g : aG) (ls st : List Value) (h : aH) (k s : Nat) : Rn (aLk T36 σ) g 14 ls st h k s = (i_op o_iadd 15) g (Rn (aLk T36 σ) g) ls st h k s := Rn.go mo36 rfl g ls st h k s
theorem r36_15 (σ : Nat → Value) (g : aG) (ls st : List Value) (h : aH) (k s : Nat) : Rn (aLk T36 σ) g 15 ls st h k s = (i_goto 21) g (Rn (aLk T36 σ) g) ls st h k s := Rn.go mo36 rfl g ls st h k s
theorem r36_18 (σ : Nat → Value) (g : aG) (ls st : List Value) (h : aH) (k s : Nat) : Rn (aLk T36 σ) g 18 ls st h k s = (i_iload 2 19) g (Rn (aLk T36 σ) g) ls st h k s := Rn.go mo36 rfl g ls st h k s
theorem r36_19 (σ : Nat → Value) (g : aG) (ls st : List Value) (h : aH) (k s : Nat) : Rn (aLk T36 σ) g 19 ls st h k s = (i_op (o_int 1) 20) g (Rn (aLk T36 σ) g) ls st h k s := Rn.go mo36 rfl g ls st h k s
theorem r36_20 (σ : Nat → Value) (g : aG) (ls st : List Value) (h : aH) (k s : Nat) : Rn (aLk T36 σ) g 20 ls st h k s = (i_op o_ishr 21) g (Rn (aLk T36 σ) g) ls st h k s := Rn.go mo36 rfl g ls st h k s
theorem r36_21 (σ : Nat → Value) (g : aG) (ls st : List Value) (h : aH) (k s : Nat) : Rn (aLk T36 σ) g 21 ls st h k s = (i_istore 4 23) g (Rn (aLk T36 σ) g) ls st h k s := Rn.go mo36 rfl g ls st h k s
theorem r36_23 (σ : Nat → Value) (g : aG) (ls st : List Value) (h : aH) (k s : Nat) : Rn (aLk T36 σ) g 23 ls st h k s = (i_iload 4 25) g (Rn (aLk T36 σ) g) ls st h k s := Rn.go mo36 rfl g ls st h k s
theorem r36_25 (σ : Nat → Value) (g : aG) (ls st : List Value) (h : aH) (k s : Nat) : Rn (aLk T36 σ) g 25 ls st h k s = (i_iload 1 26) g (Rn (aLk T36 σ) g) ls st h k s := Rn.go mo36 rfl g ls st h k s
theorem r36_26 (σ : Nat → Value) (g : aG) (ls st : List Value) (h : aH) (k s : Nat) : Rn (aLk T36 σ) g 26 ls st h k s = (i_clt 41 29) g (Rn (aLk T36 σ) g) ls st h k s := Rn.go mo36 rfl g ls st h k s
theorem r36_29 (σ : Nat → Value) (g : aG) (ls st : List Value) (h : aH) (k s : Nat) : Rn (aLk T36 σ) g 29 ls st h k s = (i_iload 2 30) g (Rn (aLk T36 σ) g) ls st h k s := Rn.go mo36 rfl g ls st h k s
theorem r36_30 (σ : Nat → Value) (g : aG) (ls st : List Value) (h : aH) (k s : Nat) : Rn (aLk T36 σ) g 30 ls st h k s = (i_iload 4 32) g (Rn (aLk T36 σ) g) ls st h k s := Rn.go mo36 rfl g ls st h k s
theorem r36_32 (σ : Nat → Value) (g : aG) (ls st : List Value) (h : aH) (k s : Nat) : Rn (aLk T36 σ) g 32 ls st h k s = (i_op o_iadd 33) g (Rn (aLk T36 σ) g) ls st h k s := Rn.go mo36 rfl g ls st h k s
theorem r36_33 (σ : Nat → Value) (g : aG) (ls st : List Value) (h : aH) (k s : Nat) : Rn (aLk T36 σ) g 33 ls st h k s = (i_op o_dup 34) g (Rn (aLk T36 σ) g) ls st h k s := Rn.go mo36 rfl g ls st h k s
theorem r36_34 (σ : Nat → Value) (g : aG) (ls st : List Value) (h : aH) (k s : Nat) : Rn (aLk T36 σ) g 34 ls st h k s = (i_istore 3 35) g (Rn (aLk T36 σ) g) ls st h k s := Rn.go mo36 rfl g ls st h k s
theorem r36_35 (σ : Nat → Value) (g : aG) (ls st : List Value) (h : aH) (k s : Nat) : Rn (aLk T36 σ) g 35 ls st h k s = (i_op (o_int 2147483639) 37) g (Rn (aLk T36 σ) g) ls st h k s := Rn.go mo36 rfl g ls st h k s
theorem r36_37 (σ : Nat → Value) (g : aG) (ls st : List Value) (h : aH) (k s : Nat) : Rn (aLk T36 σ) g 37 ls st h k s = (i_op o_isub 38) g (Rn (aLk T36 σ) g) ls st h k s := Rn.go mo36 rfl g ls st h k s
theorem r36_38 (σ : Nat → Value) (g : aG) (ls st : List Value) (h : aH) (k s : Nat) : Rn (aLk T36 σ) g 38 ls st h k s = (i_ifle 49 41) g (Rn (aLk T36 σ) g) ls st h k s := Rn.go mo36 rfl g ls st h k s
theorem r36_41 (σ : Nat → Value) (g : aG) (ls st : List Value) (h : aH) (k s : Nat) : Rn (aLk T36 σ) g 41 ls st h k s = (i_aload 0 42) g (Rn (aLk T36 σ) g) ls st h k s := Rn.go mo36 rfl g ls st h k s
theorem r36_42 (σ : Nat → Value) (g : aG) (ls st : List Value) (h : aH) (k s : Nat) : Rn (aLk T36 σ) g 42 ls st h k s = (i_iload 1 43) g (Rn (aLk T36 σ) g) ls st h k s := Rn.go mo36 rfl g ls st h k s
theorem r36_43 (σ : Nat → Value) (g : aG) (ls st : List Value) (h : aH) (k s : Nat) : Rn (aLk T36 σ) g 43 ls st h k s = (i_iload 4 45) g (Rn (aLk T36 σ) g) ls st h k s := Rn.go mo36 rfl g ls st h k s
theorem r36_45 (σ : Nat → Value) (g : aG) (ls st : List Value) (h : aH) (k s : Nat) : Rn (aLk T36 σ) g 45 ls st h k s = (i_callV [(4, 39)] 2 [] 48) g (Rn (aLk T36 σ) g) ls st h k s := Rn.go mo36 rfl g ls st h k s
theorem r36_48 (σ : Nat → Value) (g : aG) (ls st : List Value) (h : aH) (k s : Nat) : Rn (aLk T36 σ) g 48 ls st h k s = (i_istore 3 49) g (Rn (aLk T36 σ) g) ls st h k s := Rn.go mo36 rfl g ls st h k s
theorem r36_49 (σ : Nat → Value) (g : aG) (ls st : List Value) (h : aH) (k s : Nat) : Rn (aLk T36 σ) g 49 ls st h k s = (i_aload 0 50) g (Rn (aLk T36 σ) g) ls st h k s := Rn.go mo36 rfl g ls st h k s
theorem r36_50 (σ : Nat → Value) (g : aG) (ls st : List Value) (h : aH) (k s : Nat) : Rn (aLk T36 σ) g 50 ls st h k s = (i_aload 0 51) g (Rn (aLk T36 σ) g) ls st h k s := Rn.go mo36 rfl g ls st h k s
theorem r36_51 (σ : Nat → Value) (g : aG) (ls st : List Value) (h : aH) (k s : Nat) : Rn (aLk T36 σ) g 51 ls st h k s = (i_getf 4 0 54) g (Rn (aLk T36 σ) g) ls st h k s := Rn.go mo36 rfl g ls st h k s
theorem r36_54 (σ : Nat → Value) (g : aG) (ls st : List Value) (h : aH) (k s : Nat) : Rn (aLk T36 σ) g 54 ls st h k s = (i_iload 3 55) g (Rn (aLk T36 σ) g) ls st h k s := Rn.go mo36 rfl g ls st h k s
theorem r36_55 (σ : Nat → Value) (g : aG) (ls st : List Value) (h : aH) (k s : Nat) : Rn (aLk T36 σ) g 55 ls st h k s = (i_callS 70 2 [] 58) g (Rn (aLk T36 σ) g) ls st h k s := Rn.go mo36 rfl g ls st h k s
theorem r36_58 (σ : Nat → Value) (g : aG) (ls st : List Value) (h : aH) (k s : Nat) : Rn (aLk T36 σ) g 58 ls st h k s = (i_op o_dup_x1 59) g (Rn (aLk T36 σ) g) ls st h k s := Rn.go mo36 rfl g ls st h k s
theorem r36_59 (σ : Nat → Value) (g : aG) (ls st : List Value) (h : aH) (k s : Nat) : Rn (aLk T36 σ) g 59 ls st h k s = (i_putf 4 0 (.array (.object "java/lang/Object")) 62) g (Rn (aLk T36 σ) g) ls st h k s := Rn.go mo36 rfl g ls st h k s
theorem r36_62 (σ : Nat → Value) (g : aG) (ls st : List Value) (h : aH) (k s : Nat) : Rn (aLk T36 σ) g 62 ls st h k s = (i_astore 5 64) g (Rn (aLk T36 σ) g) ls st h k s := Rn.go mo36 rfl g ls st h k s
theorem r36_64 (σ : Nat → Value) (g : aG) (ls st : List Value) (h : aH) (k s : Nat) : Rn (aLk T36 σ) g 64 ls st h k s = (i_aload 0 65) g (Rn (aLk T36 σ) g) ls st h k s := Rn.go mo36 rfl g ls st h k s
theorem r36_65 (σ : Nat → Value) (g : aG) (ls st : List Value) (h : aH) (k s : Nat) : Rn (aLk T36 σ) g 65 ls st h k s = (i_getf 4 2 68) g (Rn (aLk T36 σ) g) ls st h k s := Rn.go mo36 rfl g ls st h k s
theorem r36_68 (σ : Nat → Value) (g : aG) (ls st : List Value) (h : aH) (k s : Nat) : Rn (aLk T36 σ) g 68 ls st h k s = (i_aload 0 69) g (Rn (aLk T36 σ) g) ls st h k s := Rn.go mo36 rfl g ls st h k s
theorem r36_69 (σ : Nat → Value) (g : aG) (ls st : List Value) (h : aH) (k s : Nat) : Rn (aLk T36 σ) g 69 ls st h k s = (i_getf 4 1 72) g (Rn (aLk T36 σ) g) ls st h k s := Rn.go mo36 rfl g ls st h k s
theorem r36_72 (σ : Nat → Value) (g : aG) (ls st : List Value) (h : aH) (k s : Nat) : Rn (aLk T36 σ) g 72 ls st h k s = (i_clt 96 75) g (Rn (aLk T36 σ) g) ls st h k s := Rn.go mo36 rfl g ls st h k s
theorem r36_75 (σ : Nat → Value) (g : aG) (ls st : List Value) (h : aH) (k s : Nat) : Rn (aLk T36 σ) g 75 ls st h k s = (i_aload 0 76) g (Rn (aLk T36 σ) g) ls st h k s := Rn.go mo36 rfl g ls st h k s
theorem r36_76 (σ : Nat → Value) (g : aG) (ls st : List Value) (h : aH) (k s : Nat) : Rn (aLk T36 σ) g 76 ls st h k s = (i_getf 4 2 79) g (Rn (aLk T36 σ) g) ls st h k s := Rn.go mo36 rfl g ls st h k s
theorem r36_79 (σ : Nat → Value) (g : aG) (ls st : List Value) (h : aH) (k s : Nat) : Rn (aLk T36 σ) g 79 ls st h k s = (i_aload 0 80) g (Rn (aLk T36 σ) g) ls st h k s := Rn.go mo36 rfl g ls st h k s
theorem r36_80 (σ : Nat → Value) (g : aG) (ls st : List Value) (h : aH) (k s : Nat) : Rn (aLk T36 σ) g 80 ls st h k s = (i_getf 4 1 83) g (Rn (aLk T36 σ) g) ls st h k s := Rn.go mo36 rfl g ls st h k s
theorem r36_83 (σ : Nat → Value) (g : aG) (ls st : List Value) (h : aH) (k s : Nat) : Rn (aLk T36 σ) g 83 ls st h k s = (i_cne 164 86) g (Rn (aLk T36 σ) g) ls st h k s := Rn.go mo36 rfl g ls st h k s
theorem r36_86 (σ : Nat → Value) (g : aG) (ls st : List Value) (h : aH) (k s : Nat) : Rn (aLk T36 σ) g 86 ls st h k s = (i_aload 5 88) g (Rn (aLk T36 σ) g) ls st h k s := Rn.go mo36 rfl g ls st h k s
theorem r36_88 (σ : Nat → Value) (g : aG) (ls st : List Value) (h : aH) (k s : Nat) : Rn (aLk T36 σ) g 88 ls st h k s = (i_aload 0 89) g (Rn (aLk T36 σ) g) ls st h k s := Rn.go mo36 rfl g ls st h k s
theorem r36_89 (σ : Nat → Value) (g : aG) (ls st : List Value) (h : aH) (k s : Nat) : Rn (aLk T36 σ) g 89 ls st h k s = (i_getf 4 1 92) g (Rn (aLk T36 σ) g) ls st h k s := Rn.go mo36 rfl g ls st h k s
theorem r36_92 (σ : Nat → Value) (g : aG) (ls st : List Value) (h : aH) (k s : Nat) : Rn (aLk T36 σ) g 92 ls st h k s = (i_aald [4, 5, 6, 7, 1004, 1008, 1009] 93) g (Rn (aLk T36 σ) g) ls st h k s := Rn.go mo36 rfl g ls st h k s
theorem r36_93 (σ : Nat → Value) (g : aG) (ls st : List Value) (h : aH) (k s : Nat) : Rn (aLk T36 σ) g 93 ls st h k s = (i_null 164 96) g (Rn (aLk T36 σ) g) ls st h k s := Rn.go mo36 rfl g ls st h k s
theorem r36_96 (σ : Nat → Value) (g : aG) (ls st : List Value) (h : aH) (k s : Nat) : Rn (aLk T36 σ) g 96 ls st h k s = (i_iload 3 97) g (Rn (aLk T36 σ) g) ls st h k s := Rn.go mo36 rfl g ls st h k s
theorem r36_97 (σ : Nat → Value) (g : aG) (ls st : List Value) (h : aH) (k s : Nat) : Rn (aLk T36 σ) g 97 ls st h k s = (i_iload 2 98) g (Rn (aLk T36 σ) g) ls st h k s := Rn.go mo36 rfl g ls st h k s
theorem r36_98 (σ : Nat → Value) (g : aG) (ls st : List Value) (h : aH) (k s : Nat) : Rn (aLk T36 σ) g 98 ls st h k s = (i_op o_isub 99) g (Rn (aLk T36 σ) g) ls st h k s := Rn.go mo36 rfl g ls st h k s
theorem r36_99 (σ : Nat → Value) (g : aG) (ls st : List Value) (h : aH) (k s : Nat) : Rn (aLk T36 σ) g 99 ls st h k s = (i_istore 6 101) g (Rn (aLk T36 σ) g) ls st h k s := Rn.go mo36 rfl g ls st h k s
theorem r36_101 (σ : Nat → Value) (g : aG) (ls st : List Value) (h : aH) (k s : Nat) : Rn (aLk T36 σ) g 101 ls st h k s = (i_aload 5 103) g (Rn (aLk T36 σ) g) ls st h k s := Rn.go mo36 rfl g ls st h k s
theorem r36_103 (σ : Nat → Value) (g : aG) (ls st : List Value) (h : aH) (k s : Nat) : Rn (aLk T36 σ) g 103 ls st h k s = (i_aload 0 104) g (Rn (aLk T36 σ) g) ls st h k s := Rn.go mo36 rfl g ls st h k s
theorem r36_104 (σ : Nat → Value) (g : aG) (ls st : List Value) (h : aH) (k s : Nat) : Rn (aLk T36 σ) g 104 ls st h k s = (i_getf 4 1 107) g (Rn (aLk T36 σ) g) ls st h k s := Rn.go mo36 rfl g ls st h k s
theorem r36_107 (σ : Nat → Value) (g : aG) (ls st : List Value) (h : aH) (k s : Nat) : Rn (aLk T36 σ) g 107 ls st h k s = (i_aload 5 109) g (Rn (aLk T36 σ) g) ls st h k s := Rn.go mo36 rfl g ls st h k s
theorem r36_109 (σ : Nat → Value) (g : aG) (ls st : List Value) (h : aH) (k s : Nat) : Rn (aLk T36 σ) g 109 ls st h k s = (i_aload 0 110) g (Rn (aLk T36 σ) g) ls st h k s := Rn.go mo36 rfl g ls st h k s
theorem r36_110 (σ : Nat → Value) (g : aG) (ls st : List Value) (h : aH) (k s : Nat) : Rn (aLk T36 σ) g 110 ls st h k s = (i_getf 4 1 113) g (Rn (aLk T36 σ) g) ls st h k s := Rn.go mo36 rfl g ls st h k s
theorem r36_113 (σ : Nat → Value) (g : aG) (ls st : List Value) (h : aH) (k s : Nat) : Rn (aLk T36 σ) g 113 ls st h k s = (i_iload 6 115) g (Rn (aLk T36 σ) g) ls st h k s := Rn.go mo36 rfl g ls st h k s
theorem r36_115 (σ : Nat → Value) (g : aG) (ls st : List Value) (h : aH) (k s : Nat) : Rn (aLk T36 σ) g 115 ls st h k s = (i_op o_iadd 116) g (Rn (aLk T36 σ) g) ls st h k s := Rn.go mo36 rfl g ls st h k s
theorem r36_116 (σ : Nat → Value) (g : aG) (ls st : List Value) (h : aH) (k s : Nat) : Rn (aLk T36 σ) g 116 ls st h k s = (i_iload 2 117) g (Rn (aLk T36 σ) g) ls st h k s := Rn.go mo36 rfl g ls st h k s
theorem r36_117 (σ : Nat → Value) (g : aG) (ls st : List Value) (h : aH) (k s : Nat) : Rn (aLk T36 σ) g 117 ls st h k s = (i_aload 0 118) g (Rn (aLk T36 σ) g) ls st h k s := Rn.go mo36 rfl g ls st h k s
theorem r36_118 (σ : Nat → Value) (g : aG) (ls st : List Value) (h : aH) (k s : Nat) : Rn (aLk T36 σ) g 118 ls st h k s = (i_getf 4 1 121) g (Rn (aLk T36 σ) g) ls st h k s := Rn.go mo36 rfl g ls st h k s
theorem r36_121 (σ : Nat → Value) (g : aG) (ls st : List Value) (h : aH) (k s : Nat) : Rn (aLk T36 σ) g 121 ls st h k s = (i_op o_isub 122) g (Rn (aLk T36 σ) g) ls st h k s := Rn.go mo36 rfl g ls st h k s
theorem r36_122 (σ : Nat → Value) (g : aG) (ls st : List Value) (h : aH) (k s : Nat) : Rn (aLk T36 σ) g 122 ls st h k s = (i_acopy 125) g (Rn (aLk T36 σ) g) ls st h k s := Rn.go mo36 rfl g ls st h k s
theorem r36_125 (σ : Nat → Value) (g : aG) (ls st : List Value) (h : aH) (k s : Nat) : Rn (aLk T36 σ) g 125 ls st h k s = (i_aload 0 126) g (Rn (aLk T36 σ) g) ls st h k s := Rn.go mo36 rfl g ls st h k s
theorem r36_126 (σ : Nat → Value) (g : aG) (ls st : List Value) (h : aH) (k s : Nat) : Rn (aLk T36 σ) g 126 ls st h k s = (i_getf 4 1 129) g (Rn (aLk T36 σ) g) ls st h k s := Rn.go mo36 rfl g ls st h k s
theorem r36_129 (σ : Nat → Value) (g : aG) (ls st : List Value) (h : aH) (k s : Nat) : Rn (aLk T36 σ) g 129 ls st h k s = (i_istore 7 131) g (Rn (aLk T36 σ) g) ls st h k s := Rn.go mo36 rfl g ls st h k s
theorem r36_131 (σ : Nat → Value) (g : aG) (ls st : List Value) (h : aH) (k s : Nat) : Rn (aLk T36 σ) g 131 ls st h k s = (i_aload 0 132) g (Rn (aLk T36 σ) g) ls st h k s := Rn.go mo36 rfl g ls st h k s
theorem r36_132 (σ : Nat → Value) (g : aG) (ls st : List Value) (h : aH) (k s : Nat) : Rn (aLk T36 σ) g 132 ls st h k s = (i_op o_dup 133) g (Rn (aLk T36 σ) g) ls st h k s := Rn.go mo36 rfl g ls st h k s
theorem r36_133 (σ : Nat → Value) (g : aG) (ls st : List Value) (h : aH) (k s : Nat) : Rn (aLk T36 σ) g 133 ls st h k s = (i_getf 4 1 136) g (Rn (aLk T36 σ) g) ls st h k s := Rn.go mo36 rfl g ls st h k s
theorem r36_136 (σ : Nat → Value) (g : aG) (ls st : List Value) (h : aH) (k s : Nat) : Rn (aLk T36 σ) g 136 ls st h k s = (i_iload 6 138) g (Rn (aLk T36 σ) g) ls st h k s := Rn.go mo36 rfl g ls st h k s
theorem r36_138 (σ : Nat → Value) (g : aG) (ls st : List Value) (h : aH) (k s : Nat) : Rn (aLk T36 σ) g 138 ls st h k s = (i_op o_iadd 139) g (Rn (aLk T36 σ) g) ls st h k s := Rn.go mo36 rfl g ls st h k s
theorem r36_139 (σ : Nat → Value) (g : aG) (ls st : List Value) (h : aH) (k s : Nat) : Rn (aLk T36 σ) g 139 ls st h k s = (i_op o_dup_x1 140) g (Rn (aLk T36 σ) g) ls st h k s := Rn.go mo36 rfl g ls st h k s
theorem r36_140 (σ : Nat → Value) (g : aG) (ls st : List Value) (h : aH) (k s : Nat) : Rn (aLk T36 σ) g 140 ls st h k s = (i_putf 4 1 .int 143) g (Rn (aLk T36 σ) g) ls st h k s := Rn.go mo36 rfl g ls st h k s
theorem r36_143 (σ : Nat → Value) (g : aG) (ls st : List Value) (h : aH) (k s : Nat) : Rn (aLk T36 σ) g 143 ls st h k s = (i_istore 8 145) g (Rn (aLk T36 σ) g) ls st h k s := Rn.go mo36 rfl g ls st h k s
theorem r36_145 (σ : Nat → Value) (g : aG) (ls st : List Value) (h : aH) (k s : Nat) : Rn (aLk T36 σ) g 145 ls st h k s = (i_iload 7 147) g (Rn (aLk T36 σ) g) ls st h k s := Rn.go mo36 rfl g ls st h k s
theorem r36_147 (σ : Nat → Value) (g : aG) (ls st : List Value) (h : aH) (k s : Nat) : Rn (aLk T36 σ) g 147 ls st h k s = (i_iload 8 149) g (Rn (aLk T36 σ) g) ls st h k s := Rn.go mo36 rfl g ls st h k s
theorem r36_149 (σ : Nat → Value) (g : aG) (ls st : List Value) (h : aH) (k s : Nat) : Rn (aLk T36 σ) g 149 ls st h k s = (i_cge 164 152) g (Rn (aLk T36 σ) g) ls st h k s := Rn.go mo36 rfl g ls st h k s
theorem r36_152 (σ : Nat → Value) (g : aG) (ls st : List Value) (h : aH) (k s : Nat) : Rn (aLk T36 σ) g 152 ls st h k s = (i_aload 5 154) g (Rn (aLk T36 σ) g) ls st h k s := Rn.go mo36 rfl g ls st h k s
theorem r36_154 (σ : Nat → Value) (g : aG) (ls st : List Value) (h : aH) (k s : Nat) : Rn (aLk T36 σ) g 154 ls st h k s = (i_iload 7 156) g (Rn (aLk T36 σ) g) ls st h k s := Rn.go mo36 rfl g ls st h k s
theorem r36_156 (σ : Nat → Value) (g : aG) (ls st : List Value) (h : aH) (k s : Nat) : Rn (aLk T36 σ) g 156 ls st h k s = (i_op o_null 157) g (Rn (aLk T36 σ) g) ls st h k s := Rn.go mo36 rfl g ls st h k s
theorem r36_157 (σ : Nat → Value) (g : aG) (ls st : List Value) (h : aH) (k s : Nat) : Rn (aLk T36 σ) g 157 ls st h k s = (i_aast 158) g (Rn (aLk T36 σ) g) ls st h k s := Rn.go mo36 rfl g ls st h k s
theorem r36_158 (σ : Nat → Value) (g : aG) (ls st : List Value) (h : aH) (k s : Nat) : Rn (aLk T36 σ) g 158 ls st h k s = (i_iinc 7 1 161) g (Rn (aLk T36 σ) g) ls st h k s := Rn.go mo36 rfl g ls st h k s
theorem r36_161 (σ : Nat → Value) (g : aG) (ls st : List Value) (h : aH) (k s : Nat) : Rn (aLk T36 σ) g 161 ls st h k s = (i_goto 145) g (Rn (aLk T36 σ) g) ls st h k s := Rn.go mo36 rfl g ls st h k s
theorem r36_164 (σ : Nat → Value) (g : aG) (ls st : List Value) (h : aH) (k s : Nat) : Rn (aLk T36 σ) g 164 ls st h k s = (i_ret) g (Rn (aLk T36 σ) g) ls st h k s := Rn.go mo36 rfl g ls st h k s
theorem r37_0 (σ : Nat → Value) (g : aG) (ls st : List Value) (h : aH) (k s : Nat) : Rn (aLk T37 σ) g 0 ls st h k s = (i_iinc 0 1 3) g (Rn (aLk T37 σ) g) ls st h k s := Rn.go mo37 rfl g ls st h k s
theorem r37_3 (σ : Nat → Value) (g : aG) (ls st : List Value) (h : aH) (k s : Nat) : Rn (aLk T37 σ) g 3 ls st h k s = (i_iload 0 4) g (Rn (aLk T37 σ) g) ls st h k s := Rn.go mo37 rfl g ls st h k s
theorem r37_4 (σ : Nat → Value) (g : aG) (ls st : List Value) (h : aH) (k s : Nat) : Rn (aLk T37 σ) g 4 ls st h k s = (i_iload 1 5) g (Rn (aLk T37 σ) g) ls st h k s := Rn.go mo37 rfl g ls st h k s
theorem r37_5 (σ : Nat → Value) (g : aG) (ls st : List Value) (h : aH) (k s : Nat) : Rn (aLk T37 σ) g 5 ls st h k s = (i_clt 10 8) g (Rn (aLk T37 σ) g) ls st h k s := Rn.go mo37 rfl g ls st h k s
theorem r37_8 (σ : Nat → Value) (g : aG) (ls st : List Value) (h : aH) (k s : Nat) : Rn (aLk T37 σ) g 8 ls st h k s = (i_op (o_int 0) 9) g (Rn (aLk T37 σ) g) ls st h k s := Rn.go mo37 rfl g ls st h k s
theorem r37_9 (σ : Nat → Value) (g : aG) (ls st : List Value) (h : aH) (k s : Nat) : Rn (aLk T37 σ) g 9 ls st h k s = (i_istore 0 10) g (Rn (aLk T37 σ) g) ls st h k s := Rn.go mo37 rfl g ls st h k s
theorem r37_10 (σ : Nat → Value) (g : aG) (ls st : List Value) (h : aH) (k s : Nat) : Rn (aLk T37 σ) g 10 ls st h k s = (i_iload 0 11) g (Rn (aLk T37 σ) g) ls st h k s := Rn.go mo37 rfl g ls st h k s
theorem r37_11 (σ : Nat → Value) (g : aG) (ls st : List Value) (h : aH) (k s : Nat) : Rn (aLk T37 σ) g 11 ls st h k s = (i_iret .int) g (Rn (aLk T37 σ) g) ls st h k s := Rn.go mo37 rfl g ls st h k s
theorem r38_0 (σ : Nat → Value) (g : aG) (ls st : List Value) (h : aH) (k s : Nat) : Rn (aLk T38 σ) g 0 ls st h k s = (i_aload 0 1) g (Rn (aLk T38 σ) g) ls st h k s := Rn.go mo38 rfl g ls st h k s
theorem r38_1 (σ : Nat → Value) (g : aG) (ls st : List Value) (h : aH) (k s : Nat) : Rn (aLk T38 σ) g 1 ls st h k s = (i_getf 4 1 4) g (Rn (aLk T38 σ) g) ls st h k s := Rn.go mo38 rfl g ls st h k s
theorem r38_4 (σ : Nat → Value) (g : aG) (ls st : List Value) (h : aH) (k s : Nat) : Rn (aLk T38 σ) g 4 ls st h k s = (i_aload 0 5) g (Rn (aLk T38 σ) g) ls st h k s := Rn.go mo38 rfl g ls st h k s
theorem r38_5 (σ : Nat → Value) (g : aG) (ls st : List Value) (h : aH) (k s : Nat) : Rn (aLk T38 σ) g 5 ls st h k s = (i_getf 4 2 8) g (Rn (aLk T38 σ) g) ls st h k s := Rn.go mo38 rfl g ls st h k s
theorem r38_8 (σ : Nat → Value) (g : aG) (ls st : List Value) (h : aH) (k s : Nat) : Rn (aLk T38 σ) g 8 ls st h k s = (i_cne 15 11) g (Rn (aLk T38 σ) g) ls st h k s := Rn.go mo38 rfl g ls st h k s
theorem r38_11 (σ : Nat → Value) (g : aG) (ls st : List Value) (h : aH) (k s : Nat) : Rn (aLk T38 σ) g 11 ls st h k s = (i_op (o_int 1) 12) g (Rn (aLk T38 σ) g) ls st h k s := Rn.go mo38 rfl g ls st h k s
theorem r38_12 (σ : Nat → Value) (g : aG) (ls st : List Value) (h : aH) (k s : Nat) : Rn (aLk T38 σ) g 12 ls st h k s = (i_goto 16) g (Rn (aLk T38 σ) g) ls st h k s := Rn.go mo38 rfl g ls st h k s
theorem r38_15 (σ : Nat → Value) (g : aG) (ls st : List Value) (h : aH) (k s : Nat) : Rn (aLk T38 σ) g 15 ls st h k s = (i_op (o_int 0) 16) g (Rn (aLk T38 σ) g) ls st h k s := Rn.go mo38 rfl g ls st h k s
theorem r38_16 (σ : Nat → Value) (g : aG) (ls st : List Value) (h : aH) (k s : Nat) : Rn (aLk T38 σ) g 16 ls st h k s = (i_iret .boolean) g (Rn (aLk T38 σ) g) ls st h k s := Rn.go mo38 rfl g ls st h k s
theorem r39_0 (σ : Nat → Value) (g : aG) (ls st : List Value) (h : aH) (k s : Nat) : Rn (aLk T39 σ) g 0 ls st h k s = (i_aload 0 1) g (Rn (aLk T39 σ) g) ls st h k s := Rn.go mo39 rfl g ls st h k s
theorem r39_1 (σ : Nat → Value) (g : aG) (ls st : List Value) (h : aH) (k s : Nat) : Rn (aLk T39 σ) g 1 ls st h k s = (i_getf 4 0 4) g (Rn (aLk T39 σ) g) ls st h k s := Rn.go mo39 rfl g ls st h k s
theorem r39_4 (σ : Nat → Value) (g : aG) (ls st : List Value) (h : aH) (k s : Nat) : Rn (aLk T39 σ) g 4 ls st h k s = (i_alen 5) g (Rn (aLk T39 σ) g) ls st h k s := Rn.go mo39 rfl g ls st h k s
theorem r39_5 (σ : Nat → Value) (g : aG) (ls st : List Value) (h : aH) (k s : Nat) : Rn (aLk T39 σ) g 5 ls st h k s = (i_istore 3 6) g (Rn (aLk T39 σ) g) ls st h k s := Rn.go mo39 rfl g ls st h k s
theorem r39_6 (σ : Nat → Value) (g : aG) (ls st : List Value) (h : aH) (k s : Nat) : Rn (aLk T39 σ) g 6 ls st h k s = (i_iload 3 7) g (Rn (aLk T39 σ) g) ls st h k s := Rn.go mo39 rfl g ls st h k s
theorem r39_7 (σ : Nat → Value) (g : aG) (ls st : List Value) (h : aH) (k s : Nat) : Rn (aLk T39 σ) g 7 ls st h k s = (i_iload 1 8) g (Rn (aLk T39 σ) g) ls st h k s := Rn.go mo39 rfl g ls st h k s
theorem r39_8 (σ : Nat → Value) (g : aG) (ls st : List Value) (h : aH) (k s : Nat) : Rn (aLk T39 σ) g 8 ls st h k s = (i_op o_iadd 9) g (Rn (aLk T39 σ) g) ls st h k s := Rn.go mo39 rfl g ls st h k s
theorem r39_9 (σ : Nat → Value) (g : aG) (ls st : List Value) (h : aH) (k s : Nat) : Rn (aLk T39 σ) g 9 ls st h k s = (i_op o_dup 10) g (Rn (aLk T39 σ) g) ls st h k s := Rn.go mo39 rfl g ls st h k s
theorem r39_10 (σ : Nat → Value) (g : aG) (ls st : List Value) (h : aH) (k s : Nat) : Rn (aLk T39 σ) g 10 ls st h k s = (i_istore 4 12) g (Rn (aLk T39 σ) g) ls st h k s := Rn.go mo39 rfl g ls st h k s
theorem r39_12 (σ : Nat → Value) (g : aG) (ls st : List Value) (h : aH) (k s : Nat) : Rn (aLk T39 σ) g 12 ls st h k s = (i_op (o_int 2147483639) 14) g (Rn (aLk T39 σ) g) ls st h k s := Rn.go mo39 rfl g ls st h k s
theorem r39_14 (σ : Nat → Value) (g : aG) (ls st : List Value) (h : aH) (k s : Nat) : Rn (aLk T39 σ) g 14 ls st h k s = (i_op o_isub 15) g (Rn (aLk T39 σ) g) ls st h k s := Rn.go mo39 rfl g ls st h k s
theorem r39_15 (σ : Nat → Value) (g : aG) (ls st : List Value) (h : aH) (k s : Nat) : Rn (aLk T39 σ) g 15 ls st h k s = (i_ifle 36 18) g (Rn (aLk T39 σ) g) ls st h k s := Rn.go mo39 rfl g ls st h k s
theorem r39_18 (σ : Nat → Value) (g : aG) (ls st : List Value) (h : aH) (k s : Nat) : Rn (aLk T39 σ) g 18 ls st h k s = (i_iload 4 20) g (Rn (aLk T39 σ) g) ls st h k s := Rn.go mo39 rfl g ls st h k s
theorem r39_20 (σ : Nat → Value) (g : aG) (ls st : List Value) (h : aH) (k s : Nat) : Rn (aLk T39 σ) g 20 ls st h k s = (i_ifge 33 23) g (Rn (aLk T39 σ) g) ls st h k s := Rn.go mo39 rfl g ls st h k s
theorem r39_26 (σ : Nat → Value) (g : aG) (ls st : List Value) (h : aH) (k s : Nat) : Rn (aLk T39 σ) g 26 ls st h k s = (i_op o_dup 27) g (Rn (aLk T39 σ) g) ls st h k s := Rn.go mo39 rfl g ls st h k s
theorem r39_33 (σ : Nat → Value) (g : aG) (ls st : List Value) (h : aH) (k s : Nat) : Rn (aLk T39 σ) g 33 ls st h k s = (i_op (o_int 2147483647) 35) g (Rn (aLk T39 σ) g) ls st h k s := Rn.go mo39 rfl g ls st h k s
theorem r39_35 (σ : Nat → Value) (g : aG) (ls st : List Value) (h : aH) (k s : Nat) : Rn (aLk T39 σ) g 35 ls st h k s = (i_iret .int) g (Rn (aLk T39 σ) g) ls st h k s := Rn.go mo39 rfl g ls st h k s
theorem r39_36 (σ : Nat → Value) (g : aG) (ls st : List Value) (h : aH) (k s : Nat) : Rn (aLk T39 σ) g 36 ls st h k s = (i_iload 1 37) g (Rn (aLk T39 σ) g) ls st h k s := Rn.go mo39 rfl g ls st h k s
theorem r39_37 (σ : Nat → Value) (g : aG) (ls st : List Value) (h : aH) (k s : Nat) : Rn (aLk T39 σ) g 37 ls st h k s = (i_iload 2 38) g (Rn (aLk T39 σ) g) ls st h k s := Rn.go mo39 rfl g ls st h k s
theorem r39_38 (σ : Nat → Value) (g : aG) (ls st : List Value) (h : aH) (k s : Nat) : Rn (aLk T39 σ) g 38 ls st h k s = (i_cle 44 41) g (Rn (aLk T39 σ) g) ls st h k s := Rn.go mo39 rfl g ls st h k s
theorem r39_41 (σ : Nat → Value) (g : aG) (ls st : List Value) (h : aH) (k s : Nat) : Rn (aLk T39 σ) g 41 ls st h k s = (i_iload 4 43) g (Rn (aLk T39 σ) g) ls st h k s := Rn.go mo39 rfl g ls st h k s
theorem r39_43 (σ : Nat → Value) (g : aG) (ls st : List Value) (h : aH) (k s : Nat) : Rn (aLk T39 σ) g 43 ls st h k s = (i_iret .int) g (Rn (aLk T39 σ) g) ls st h k s := Rn.go mo39 rfl g ls st h k s
theorem r39_44 (σ : Nat → Value) (g : aG) (ls st : List Value) (h : aH) (k s : Nat) : Rn (aLk T39 σ) g 44 ls st h k s = (i_iload 3 45) g (Rn (aLk T39 σ) g) ls st h k s := Rn.go mo39 rfl g ls st h k s
theorem r39_45 (σ : Nat → Value) (g : aG) (ls st : List Value) (h : aH) (k s : Nat) : Rn (aLk T39 σ) g 45 ls st h k s = (i_iload 2 46) g (Rn (aLk T39 σ) g) ls st h k s := Rn.go mo39 rfl g ls st h k s
theorem r39_46 (σ : Nat → Value) (g : aG) (ls st : List Value) (h : aH) (k s : Nat) : Rn (aLk T39 σ) g 46 ls st h k s = (i_op o_iadd 47) g (Rn (aLk T39 σ) g) ls st h k s := Rn.go mo39 rfl g ls st h k s
theorem r39_47 (σ : Nat → Value) (g : aG) (ls st : List Value) (h : aH) (k s : Nat) : Rn (aLk T39 σ) g 47 ls st h k s = (i_op (o_int 2147483639) 49) g (Rn (aLk T39 σ) g) ls st h k s := Rn.go mo39 rfl g ls st h k s
theorem r39_49 (σ : Nat → Value) (g : aG) (ls st : List Value) (h : aH) (k s : Nat) : Rn (aLk T39 σ) g 49 ls st h k s = (i_op o_isub 50) g (Rn (aLk T39 σ) g) ls st h k s := Rn.go mo39 rfl g ls st h k s
theorem r39_50 (σ : Nat → Value) (g : aG) (ls st : List Value) (h : aH) (k s : Nat) : Rn (aLk T39 σ) g 50 ls st h k s = (i_ifge 59 53) g (Rn (aLk T39 σ) g) ls st h k s := Rn.go mo39 rfl g ls st h k s
theorem r39_53 (σ : Nat → Value) (g : aG) (ls st : List Value) (h : aH) (k s : Nat) : Rn (aLk T39 σ) g 53 ls st h k s = (i_iload 3 54) g (Rn (aLk T39 σ) g) ls st h k s := Rn.go mo39 rfl g ls st h k s
theorem r39_54 (σ : Nat → Value) (g : aG) (ls st : List Value) (h : aH) (k s : Nat) : Rn (aLk T39 σ) g 54 ls st h k s = (i_iload 2 55) g (Rn (aLk T39 σ) g) ls st h k s := Rn.go mo39 rfl g ls st h k s
theorem r39_55 (σ : Nat → Value) (g : aG) (ls st : List Value) (h : aH) (k s : Nat) : Rn (aLk T39 σ) g 55 ls st h k s = (i_op o_iadd 56) g (Rn (aLk T39 σ) g) ls st h k s := Rn.go mo39 rfl g ls st h k s
theorem r39_56 (σ : Nat → Value) (g : aG) (ls st : List Value) (h : aH) (k s : Nat) : Rn (aLk T39 σ) g 56 ls st h k s = (i_goto 61) g (Rn (aLk T39 σ) g) ls st h k s := Rn.go mo39 rfl g ls st h k s
theorem r39_59 (σ : Nat → Value) (g : aG) (ls st : List Value) (h : aH) (k s : Nat) : Rn (aLk T39 σ) g 59 ls st h k s = (i_op (o_int 2147483639) 61) g (Rn (aLk T39 σ) g) ls st h k s := Rn.go mo39 rfl g ls st h k s
theorem r39_61 (σ : Nat → Value) (g : aG) (ls st : List Value) (h : aH) (k s : Nat) : Rn (aLk T39 σ) g 61 ls st h k s = (i_iret .int) g (Rn (aLk T39 σ) g) ls st h k s := Rn.go mo39 rfl g ls st h k s
theorem r40_0 (σ : Nat → Value) (g : aG) (ls st : List Value) (h : aH) (k s : Nat) : Rn (aLk T40 σ) g 0 ls st h k s = (i_aload 0 1) g (Rn (aLk T40 σ) g) ls st h k s := Rn.go mo40 rfl g ls st h k s
theorem r40_1 (σ : Nat → Value) (g : aG) (ls st : List Value) (h : aH) (k s : Nat) : Rn (aLk T40 σ) g 1 ls st h k s = (i_getf 4 0 4) g (Rn (aLk T40 σ) g) ls st h k s := Rn.go mo40 rfl g ls st h k s
theorem r40_4 (σ : Nat → Value) (g : aG) (ls st : List Value) (h : aH) (k s : Nat) : Rn (aLk T40 σ) g 4 ls st h k s = (i_op o_dup 5) g (Rn (aLk T40 σ) g) ls st h k s := Rn.go mo40 rfl g ls st h k s
theorem r40_5 (σ : Nat → Value) (g : aG) (ls st : List Value) (h : aH) (k s : Nat) : Rn (aLk T40 σ) g 5 ls st h k s = (i_astore 1 6) g (Rn (aLk T40 σ) g) ls st h k s := Rn.go mo40 rfl g ls st h k s
theorem r40_6 (σ : Nat → Value) (g : aG) (ls st : List Value) (h : aH) (k s : Nat) : Rn (aLk T40 σ) g 6 ls st h k s = (i_aload 0 7) g (Rn (aLk T40 σ) g) ls st h k s := Rn.go mo40 rfl g ls st h k s
theorem r40_7 (σ : Nat → Value) (g : aG) (ls st : List Value) (h : aH) (k s : Nat) : Rn (aLk T40 σ) g 7 ls st h k s = (i_getf 4 1 10) g (Rn (aLk T40 σ) g) ls st h k s := Rn.go mo40 rfl g ls st h k s
theorem r40_10 (σ : Nat → Value) (g : aG) (ls st : List Value) (h : aH) (k s : Nat) : Rn (aLk T40 σ) g 10 ls st h k s = (i_op o_dup 11) g (Rn (aLk T40 σ) g) ls st h k s := Rn.go mo40 rfl g ls st h k s
theorem r40_11 (σ : Nat → Value) (g : aG) (ls st : List Value) (h : aH) (k s : Nat) : Rn (aLk T40 σ) g 11 ls st h k s = (i_istore 2 12) g (Rn (aLk T40 σ) g) ls st h k s := Rn.go mo40 rfl g ls st h k s
theorem r40_12 (σ : Nat → Value) (g : aG) (ls st : List Value) (h : aH) (k s : Nat) : Rn (aLk T40 σ) g 12 ls st h k s = (i_callS 35 2 [] 15) g (Rn (aLk T40 σ) g) ls st h k s := Rn.go mo40 rfl g ls st h k s
theorem r40_15 (σ : Nat → Value) (g : aG) (ls st : List Value) (h : aH) (k s : Nat) : Rn (aLk T40 σ) g 15 ls st h k s = (i_astore 3 16) g (Rn (aLk T40 σ) g) ls st h k s := Rn.go mo40 rfl g ls st h k s
theorem r40_16 (σ : Nat → Value) (g : aG) (ls st : List Value) (h : aH) (k s : Nat) : Rn (aLk T40 σ) g 16 ls st h k s = (i_aload 3 17) g (Rn (aLk T40 σ) g) ls st h k s := Rn.go mo40 rfl g ls st h k s
theorem r40_17 (σ : Nat → Value) (g : aG) (ls st : List Value) (h : aH) (k s : Nat) : Rn (aLk T40 σ) g 17 ls st h k s = (i_null 34 20) g (Rn (aLk T40 σ) g) ls st h k s := Rn.go mo40 rfl g ls st h k s
theorem r40_20 (σ : Nat → Value) (g : aG) (ls st : List Value) (h : aH) (k s : Nat) : Rn (aLk T40 σ) g 20 ls st h k s = (i_aload 1 21) g (Rn (aLk T40 σ) g) ls st h k s := Rn.go mo40 rfl g ls st h k s
theorem r40_21 (σ : Nat → Value) (g : aG) (ls st : List Value) (h : aH) (k s : Nat) : Rn (aLk T40 σ) g 21 ls st h k s = (i_iload 2 22) g (Rn (aLk T40 σ) g) ls st h k s := Rn.go mo40 rfl g ls st h k s
theorem r40_22 (σ : Nat → Value) (g : aG) (ls st : List Value) (h : aH) (k s : Nat) : Rn (aLk T40 σ) g 22 ls st h k s = (i_op o_null 23) g (Rn (aLk T40 σ) g) ls st h k s := Rn.go mo40 rfl g ls st h k s
theorem r40_23 (σ : Nat → Value) (g : aG) (ls st : List Value) (h : aH) (k s : Nat) : Rn (aLk T40 σ) g 23 ls st h k s = (i_aast 24) g (Rn (aLk T40 σ) g) ls st h k s := Rn.go mo40 rfl g ls st h k s
theorem r40_24 (σ : Nat → Value) (g : aG) (ls st : List Value) (h : aH) (k s : Nat) : Rn (aLk T40 σ) g 24 ls st h k s = (i_aload 0 25) g (Rn (aLk T40 σ) g) ls st h k s := Rn.go mo40 rfl g ls st h k s
theorem r40_25 (σ : Nat → Value) (g : aG) (ls st : List Value) (h : aH) (k s : Nat) : Rn (aLk T40 σ) g 25 ls st h k s = (i_iload 2 26) g (Rn (aLk T40 σ) g) ls st h k s := Rn.go mo40 rfl g ls st h k s
theorem r40_26 (σ : Nat → Value) (g : aG) (ls st : List Value) (h : aH) (k s : Nat) : Rn (aLk T40 σ) g 26 ls st h k s = (i_aload 1 27) g (Rn (aLk T40 σ) g) ls st h k s := Rn.go mo40 rfl g ls st h k s
theorem r40_27 (σ : Nat → Value) (g : aG) (ls st : List Value) (h : aH) (k s : Nat) : Rn (aLk T40 σ) g 27 ls st h k s = (i_alen 28) g (Rn (aLk T40 σ) g) ls st h k s := Rn.go mo40 rfl g ls st h k s
theorem r40_28 (σ : Nat → Value) (g : aG) (ls st : List Value) (h : aH) (k s : Nat) : Rn (aLk T40 σ) g 28 ls st h k s = (i_callS 37 2 [] 31) g (Rn (aLk T40 σ) g) ls st h k s := Rn.go mo40 rfl g ls st h k s
theorem r40_31 (σ : Nat → Value) (g : aG) (ls st : List Value) (h : aH) (k s : Nat) : Rn (aLk T40 σ) g 31 ls st h k s = (i_putf 4 1 .int 34) g (Rn (aLk T40 σ) g) ls st h k s := Rn.go mo40 rfl g ls st h k s
theorem r40_34 (σ : Nat → Value) (g : aG) (ls st : List Value) (h : aH) (k s : Nat) : Rn (aLk T40 σ) g 34 ls st h k s = (i_aload 3 35) g (Rn (aLk T40 σ) g) ls st h k s := Rn.go mo40 rfl g ls st h k s
theorem r40_35 (σ : Nat → Value) (g : aG) (ls st : List Value) (h : aH) (k s : Nat) : Rn (aLk T40 σ) g 35 ls st h k s = (i_aret) g (Rn (aLk T40 σ) g) ls st h k s := Rn.go mo40 rfl g ls st h k s
theorem r41_0 (σ : Nat → Value) (g : aG) (ls st : List Value) (h : aH) (k s : Nat) : Rn (aLk T41 σ) g 0 ls st h k s = (i_aload 0 1) g (Rn (aLk T41 σ) g) ls st h k s := Rn.go mo41 rfl g ls st h k s
theorem r41_1 (σ : Nat → Value) (g : aG) (ls st : List Value) (h : aH) (k s : Nat) : Rn (aLk T41 σ) g 1 ls st h k s = (i_getf 4 0 4) g (Rn (aLk T41 σ) g) ls st h k s := Rn.go mo41 rfl g ls st h k s
theorem r41_4 (σ : Nat → Value) (g : aG) (ls st : List Value) (h : aH) (k s : Nat) : Rn (aLk T41 σ) g 4 ls st h k s = (i_op o_dup 5) g (Rn (aLk T41 σ) g) ls st h k s := Rn.go mo41 rfl g ls st h k s
theorem r41_5 (σ : Nat → Value) (g : aG) (ls st : List Value) (h : aH) (k s : Nat) : Rn (aLk T41 σ) g 5 ls st h k s = (i_astore 1 6) g (Rn (aLk T41 σ) g) ls st h k s := Rn.go mo41 rfl g ls st h k s
theorem r41_6 (σ : Nat → Value) (g : aG) (ls st : List Value) (h : aH) (k s : Nat) : Rn (aLk T41 σ) g 6 ls st h k s = (i_aload 0 7) g (Rn (aLk T41 σ) g) ls st h k s := Rn.go mo41 rfl g ls st h k s
theorem r41_7 (σ : Nat → Value) (g : aG) (ls st : List Value) (h : aH) (k s : Nat) : Rn (aLk T41 σ) g 7 ls st h k s = (i_getf 4 2 10) g (Rn (aLk T41 σ) g) ls st h k s := Rn.go mo41 rfl g ls st h k s
theorem r41_10 (σ : Nat → Value) (g : aG) (ls st : List Value) (h : aH) (k s : Nat) : Rn (aLk T41 σ) g 10 ls st h k s = (i_aload 1 11) g (Rn (aLk T41 σ) g) ls st h k s := Rn.go mo41 rfl g ls st h k s
theorem r41_11 (σ : Nat → Value) (g : aG) (ls st : List Value) (h : aH) (k s : Nat) : Rn (aLk T41 σ) g 11 ls st h k s = (i_alen 12) g (Rn (aLk T41 σ) g) ls st h k s := Rn.go mo41 rfl g ls st h k s
theorem r41_12 (σ : Nat → Value) (g : aG) (ls st : List Value) (h : aH) (k s : Nat) : Rn (aLk T41 σ) g 12 ls st h k s = (i_callS 34 2 [] 15) g (Rn (aLk T41 σ) g) ls st h k s := Rn.go mo41 rfl g ls st h k s
theorem r41_15 (σ : Nat → Value) (g : aG) (ls st : List Value) (h : aH) (k s : Nat) : Rn (aLk T41 σ) g 15 ls st h k s = (i_op o_dup 16) g (Rn (aLk T41 σ) g) ls st h k s := Rn.go mo41 rfl g ls st h k s
theorem r41_16 (σ : Nat → Value) (g : aG) (ls st : List Value) (h : aH) (k s : Nat) : Rn (aLk T41 σ) g 16 ls st h k s = (i_istore 2 17) g (Rn (aLk T41 σ) g) ls st h k s := Rn.go mo41 rfl g ls st h k s
theorem r41_17 (σ : Nat → Value) (g : aG) (ls st : List Value) (h : aH) (k s : Nat) : Rn (aLk T41 σ) g 17 ls st h k s = (i_callS 35 2 [] 20) g (Rn (aLk T41 σ) g) ls st h k s := Rn.go mo41 rfl g ls st h k s
theorem r41_20 (σ : Nat → Value) (g : aG) (ls st : List Value) (h : aH) (k s : Nat) : Rn (aLk T41 σ) g 20 ls st h k s = (i_astore 3 21) g (Rn (aLk T41 σ) g) ls st h k s := Rn.go mo41 rfl g ls st h k s
theorem r41_21 (σ : Nat → Value) (g : aG) (ls st : List Value) (h : aH) (k s : Nat) : Rn (aLk T41 σ) g 21 ls st h k s = (i_aload 3 22) g (Rn (aLk T41 σ) g) ls st h k s := Rn.go mo41 rfl g ls st h k s
theorem r41_22 (σ : Nat → Value) (g : aG) (ls st : List Value) (h : aH) (k s : Nat) : Rn (aLk T41 σ) g 22 ls st h k s = (i_null 34 25) g (Rn (aLk T41 σ) g) ls st h k s := Rn.go mo41 rfl g ls st h k s
theorem r41_25 (σ : Nat → Value) (g : aG) (ls st : List Value) (h : aH) (k s : Nat) : Rn (aLk T41 σ) g 25 ls st h k s = (i_aload 1 26) g (Rn (aLk T41 σ) g) ls st h k s := Rn.go mo41 rfl g ls st h k s
theorem r41_26 (σ : Nat → Value) (g : aG) (ls st : List Value) (h : aH) (k s : Nat) : Rn (aLk T41 σ) g 26 ls st h k s = (i_aload 0 27) g (Rn (aLk T41 σ) g) ls st h k s := Rn.go mo41 rfl g ls st h k s
theorem r41_27 (σ : Nat → Value) (g : aG) (ls st : List Value) (h : aH) (k s : Nat) : Rn (aLk T41 σ) g 27 ls st h k s = (i_iload 2 28) g (Rn (aLk T41 σ) g) ls st h k s := Rn.go mo41 rfl g ls st h k s
theorem r41_28 (σ : Nat → Value) (g : aG) (ls st : List Value) (h : aH) (k s : Nat) : Rn (aLk T41 σ) g 28 ls st h k s = (i_op o_dup_x1 29) g (Rn (aLk T41 σ) g) ls st h k s := Rn.go mo41 rfl g ls st h k s
theorem r41_29 (σ : Nat → Value) (g : aG) (ls st : List Value) (h : aH) (k s : Nat) : Rn (aLk T41 σ) g 29 ls st h k s = (i_putf 4 2 .int 32) g (Rn (aLk T41 σ) g) ls st h k s := Rn.go mo41 rfl g ls st h k s
theorem r41_32 (σ : Nat → Value) (g : aG) (ls st : List Value) (h : aH) (k s : Nat) : Rn (aLk T41 σ) g 32 ls st h k s = (i_op o_null 33) g (Rn (aLk T41 σ) g) ls st h k s := Rn.go mo41 rfl g ls st h k s
theorem r41_33 (σ : Nat → Value) (g : aG) (ls st : List Value) (h : aH) (k s : Nat) : Rn (aLk T41 σ) g 33 ls st h k s = (i_aast 34) g (Rn (aLk T41 σ) g) ls st h k s := Rn.go mo41 rfl g ls st h k s
theorem r41_34 (σ : Nat → Value) (g : aG) (ls st : List Value) (h : aH) (k s : Nat) : Rn (aLk T41 σ) g 34 ls st h k s = (i_aload 3 35) g (Rn (aLk T41 σ) g) ls st h k s := Rn.go mo41 rfl g ls st h k s
theorem r41_35 (σ : Nat → Value) (g : aG) (ls st : List Value) (h : aH) (k s : Nat) : Rn (aLk T41 σ) g 35 ls st h k s = (i_aret) g (Rn (aLk T41 σ) g) ls st h k s := Rn.go mo41 rfl g ls st h k s
theorem r42_0 (σ : Nat → Value) (g : aG) (ls st : List Value) (h : aH) (k s : Nat) : Rn (aLk T42 σ) g 0 ls st h k s = (i_aload 0 1) g (Rn (aLk T42 σ) g) ls st h k s := Rn.go mo42 rfl g ls st h k s
theorem r42_1 (σ : Nat → Value) (g : aG) (ls st : List Value) (h : aH) (k s : Nat) : Rn (aLk T42 σ) g 1 ls st h k s = (i_callV [(4, 40)] 0 [] 4) g (Rn (aLk T42 σ) g) ls st h k s := Rn.go mo42 rfl g ls st h k s
theorem r42_4 (σ : Nat → Value) (g : aG) (ls st : List Value) (h : aH) (k s : Nat) : Rn (aLk T42 σ) g 4 ls st h k s = (i_astore 1 5) g (Rn (aLk T42 σ) g) ls st h k s := Rn.go mo42 rfl g ls st h k s
theorem r42_5 (σ : Nat → Value) (g : aG) (ls st : List Value) (h : aH) (k s : Nat) : Rn (aLk T42 σ) g 5 ls st h k s = (i_aload 1 6) g (Rn (aLk T42 σ) g) ls st h k s := Rn.go mo42 rfl g ls st h k s
theorem r42_6 (σ : Nat → Value) (g : aG) (ls st : List Value) (h : aH) (k s : Nat) : Rn (aLk T42 σ) g 6 ls st h k s = (i_nnull 17 9) g (Rn (aLk T42 σ) g) ls st h k s := Rn.go mo42 rfl g ls st h k s
theorem r42_12 (σ : Nat → Value) (g : aG) (ls st : List Value) (h : aH) (k s : Nat) : Rn (aLk T42 σ) g 12 ls st h k s = (i_op o_dup 13) g (Rn (aLk T42 σ) g) ls st h k s := Rn.go mo42 rfl g ls st h k s
theorem r42_17 (σ : Nat → Value) (g : aG) (ls st : List Value) (h : aH) (k s : Nat) : Rn (aLk T42 σ) g 17 ls st h k s = (i_aload 1 18) g (Rn (aLk T42 σ) g) ls st h k s := Rn.go mo42 rfl g ls st h k s
theorem r42_18 (σ : Nat → Value) (g : aG) (ls st : List Value) (h : aH) (k s : Nat) : Rn (aLk T42 σ) g 18 ls st h k s = (i_aret) g (Rn (aLk T42 σ) g) ls st h k s := Rn.go mo42 rfl g ls st h k s
theorem r43_0 (σ : Nat → Value) (g : aG) (ls st : List Value) (h : aH) (k s : Nat) : Rn (aLk T43 σ) g 0 ls st h k s = (i_aload 0 1) g (Rn (aLk T43 σ) g) ls st h k s := Rn.go mo43 rfl g ls st h k s
theorem r43_1 (σ : Nat → Value) (g : aG) (ls st : List Value) (h : aH) (k s : Nat) : Rn (aLk T43 σ) g 1 ls st h k s = (i_callV [(4, 41)] 0 [] 4) g (Rn (aLk T43 σ) g) ls st h k s := Rn.go mo43 rfl g ls st h k s
theorem r43_4 (σ : Nat → Value) (g : aG) (ls st : List Value) (h : aH) (k s : Nat) : Rn (aLk T43 σ) g 4 ls st h k s = (i_astore 1 5) g (Rn (aLk T43 σ) g) ls st h k s := Rn.go mo43 rfl g ls st h k s
theorem r43_5 (σ : Nat → Value) (g : aG) (ls st : List Value) (h : aH) (k s : Nat) : Rn (aLk T43 σ) g 5 ls st h k s = (i_aload 1 6) g (Rn (aLk T43 σ) g) ls st h k s := Rn.go mo43 rfl g ls st h k s
theorem r43_6 (σ : Nat → Value) (g : aG) (ls st : List Value) (h : aH) (k s : Nat) : Rn (aLk T43 σ) g 6 ls st h k s = (i_nnull 17 9) g (Rn (aLk T43 σ) g) ls st h k s := Rn.go mo43 rfl g ls st h k s
theorem r43_12 (σ : Nat → Value) (g : aG) (ls st : List Value) (h : aH) (k s : Nat) : Rn (aLk T43 σ) g 12 ls st h k s = (i_op o_dup 13) g (Rn (aLk T43 σ) g) ls st h k s := Rn.go mo43 rfl g ls st h k s
theorem r43_17 (σ : Nat → Value) (g : aG) (ls st : List Value) (h : aH) (k s : Nat) : Rn (aLk T43 σ) g 17 ls st h k s = (i_aload 1 18) g (Rn (aLk T43 σ) g) ls st h k s := Rn.go mo43 rfl g ls st h k s
theorem r43_18 (σ : Nat → Value) (g : aG) (ls st : List Value) (h : aH) (k s : Nat) : Rn (aLk T43 σ) g 18 ls st h k s = (i_aret) g (Rn (aLk T43 σ) g) ls st h k s := Rn.go mo43 rfl g ls st h k s
theorem r44_0 (σ : Nat → Value) (g : aG) (ls st : List Value) (h : aH) (k s : Nat) : Rn (aLk T44 σ) g 0 ls st h k s = (i_aload 0 1) g (Rn (aLk T44 σ) g) ls st h k s := Rn.go mo44 rfl g ls st h k s
theorem r44_1 (σ : Nat → Value) (g : aG) (ls st : List Value) (h : aH) (k s : Nat) : Rn (aLk T44 σ) g 1 ls st h k s = (i_getf 4 2 4) g (Rn (aLk T44 σ) g) ls st h k s := Rn.go mo44 rfl g ls st h k s
theorem r44_4 (σ : Nat → Value) (g : aG) (ls st : List Value) (h : aH) (k s : Nat) : Rn (aLk T44 σ) g 4 ls st h k s = (i_aload 0 5) g (Rn (aLk T44 σ) g) ls st h k s := Rn.go mo44 rfl g ls st h k s
theorem r44_5 (σ : Nat → Value) (g : aG) (ls st : List Value) (h : aH) (k s : Nat) : Rn (aLk T44 σ) g 5 ls st h k s = (i_getf 4 1 8) g (Rn (aLk T44 σ) g) ls st h k s := Rn.go mo44 rfl g ls st h k s
theorem r44_8 (σ : Nat → Value) (g : aG) (ls st : List Value) (h : aH) (k s : Nat) : Rn (aLk T44 σ) g 8 ls st h k s = (i_aload 0 9) g (Rn (aLk T44 σ) g) ls st h k s := Rn.go mo44 rfl g ls st h k s
theorem r44_9 (σ : Nat → Value) (g : aG) (ls st : List Value) (h : aH) (k s : Nat) : Rn (aLk T44 σ) g 9 ls st h k s = (i_getf 4 0 12) g (Rn (aLk T44 σ) g) ls st h k s := Rn.go mo44 rfl g ls st h k s
theorem r44_12 (σ : Nat → Value) (g : aG) (ls st : List Value) (h : aH) (k s : Nat) : Rn (aLk T44 σ) g 12 ls st h k s = (i_alen 13) g (Rn (aLk T44 σ) g) ls st h k s := Rn.go mo44 rfl g ls st h k s
theorem r44_13 (σ : Nat → Value) (g : aG) (ls st : List Value) (h : aH) (k s : Nat) : Rn (aLk T44 σ) g 13 ls st h k s = (i_callS 45 3 [] 16) g (Rn (aLk T44 σ) g) ls st h k s := Rn.go mo44 rfl g ls st h k s
theorem r44_16 (σ : Nat → Value) (g : aG) (ls st : List Value) (h : aH) (k s : Nat) : Rn (aLk T44 σ) g 16 ls st h k s = (i_iret .int) g (Rn (aLk T44 σ) g) ls st h k s := Rn.go mo44 rfl g ls st h k s
theorem r45_0 (σ : Nat → Value) (g : aG) (ls st : List Value) (h : aH) (k s : Nat) : Rn (aLk T45 σ) g 0 ls st h k s = (i_iload 0 1) g (Rn (aLk T45 σ) g) ls st h k s := Rn.go mo45 rfl g ls st h k s
theorem r45_1 (σ : Nat → Value) (g : aG) (ls st : List Value) (h : aH) (k s : Nat) : Rn (aLk T45 σ) g 1 ls st h k s = (i_iload 1 2) g (Rn (aLk T45 σ) g) ls st h k s := Rn.go mo45 rfl g ls st h k s
theorem r45_2 (σ : Nat → Value) (g : aG) (ls st : List Value) (h : aH) (k s : Nat) : Rn (aLk T45 σ) g 2 ls st h k s = (i_op o_isub 3) g (Rn (aLk T45 σ) g) ls st h k s := Rn.go mo45 rfl g ls st h k s
theorem r45_3 (σ : Nat → Value) (g : aG) (ls st : List Value) (h : aH) (k s : Nat) : Rn (aLk T45 σ) g 3 ls st h k s = (i_op o_dup 4) g (Rn (aLk T45 σ) g) ls st h k s := Rn.go mo45 rfl g ls st h k s
theorem r45_4 (σ : Nat → Value) (g : aG) (ls st : List Value) (h : aH) (k s : Nat) : Rn (aLk T45 σ) g 4 ls st h k s = (i_istore 0 5) g (Rn (aLk T45 σ) g) ls st h k s := Rn.go mo45 rfl g ls st h k s
theorem r45_5 (σ : Nat → Value) (g : aG) (ls st : List Value) (h : aH) (k s : Nat) : Rn (aLk T45 σ) g 5 ls st h k s = (i_ifge 12 8) g (Rn (aLk T45 σ) g) ls st h k s := Rn.go mo45 rfl g ls st h k s
theorem r45_8 (σ : Nat → Value) (g : aG) (ls st : List Value) (h : aH) (k s : Nat) : Rn (aLk T45 σ) g 8 ls st h k s = (i_iload 0 9) g (Rn (aLk T45 σ) g) ls st h k s := Rn.go mo45 rfl g ls st h k s
theorem r45_9 (σ : Nat → Value) (g : aG) (ls st : List Value) (h : aH) (k s : Nat) : Rn (aLk T45 σ) g 9 ls st h k s = (i_iload 2 10) g (Rn (aLk T45 σ) g) ls st h k s := Rn.go mo45 rfl g ls st h k s
theorem r45_10 (σ : Nat → Value) (g : aG) (ls st : List Value) (h : aH) (k s : Nat) : Rn (aLk T45 σ) g 10 ls st h k s = (i_op o_iadd 11) g (Rn (aLk T45 σ) g) ls st h k s := Rn.go mo45 rfl g ls st h k s
theorem r45_11 (σ : Nat → Value) (g : aG) (ls st : List Value) (h : aH) (k s : Nat) : Rn (aLk T45 σ) g 11 ls st h k s = (i_istore 0 12) g (Rn (aLk T45 σ) g) ls st h k s := Rn.go mo45 rfl g ls st h k s
theorem r45_12 (σ : Nat → Value) (g : aG) (ls st : List Value) (h : aH) (k s : Nat) : Rn (aLk T45 σ) g 12 ls st h k s = (i_iload 0 13) g (Rn (aLk T45 σ) g) ls st h k s := Rn.go mo45 rfl g ls st h k s
theorem r45_13 (σ : Nat → Value) (g : aG) (ls st : List Value) (h : aH) (k s : Nat) : Rn (aLk T45 σ) g 13 ls st h k s = (i_iret .int) g (Rn (aLk T45 σ) g) ls st h k s := Rn.go mo45 rfl g ls st h k s
theorem r46_0 (σ : Nat → Value) (g : aG) (ls st : List Value) (h : aH) (k s : Nat) : Rn (aLk T46 σ) g 0 ls st h k s = (i_aload 0 1) g (Rn (aLk T46 σ) g) ls st h k s := Rn.go mo46 rfl g ls st h k s
theorem r46_1 (σ : Nat → Value) (g : aG) (ls st : List Value) (h : aH) (k s : Nat) : Rn (aLk T46 σ) g 1 ls st h k s = (i_callI 26 0 [] 4) g (Rn (aLk T46 σ) g) ls st h k s := Rn.go mo46 rfl g ls st h k s
theorem r46_4 (σ : Nat → Value) (g : aG) (ls st : List Value) (h : aH) (k s : Nat) : Rn (aLk T46 σ) g 4 ls st h k s = (i_aload 0 5) g (Rn (aLk T46 σ) g) ls st h k s := Rn.go mo46 rfl g ls st h k s
theorem r46_5 (σ : Nat → Value) (g : aG) (ls st : List Value) (h : aH) (k s : Nat) : Rn (aLk T46 σ) g 5 ls st h k s = (i_push (σ 0) 8) g (Rn (aLk T46 σ) g) ls st h k s := Rn.go mo46 rfl g ls st h k s
theorem r46_8 (σ : Nat → Value) (g : aG) (ls st : List Value) (h : aH) (k s : Nat) : Rn (aLk T46 σ) g 8 ls st h k s = (i_putf 0 1 (.array (.object "java/lang/Object")) 11) g (Rn (aLk T46 σ) g) ls st h k s := Rn.go mo46 rfl g ls st h k s
theorem r46_11 (σ : Nat → Value) (g : aG) (ls st : List Value) (h : aH) (k s : Nat) : Rn (aLk T46 σ) g 11 ls st h k s = (i_ret) g (Rn (aLk T46 σ) g) ls st h k s := Rn.go mo46 rfl g ls st h k s
theorem r47_0 (σ : Nat → Value) (g : aG) (ls st : List Value) (h : aH) (k s : Nat) : Rn (aLk T47 σ) g 0 ls st h k s = (i_aload 0 1) g (Rn (aLk T47 σ) g) ls st h k s := Rn.go mo47 rfl g ls st h k s
theorem r47_1 (σ : Nat → Value) (g : aG) (ls st : List Value) (h : aH) (k s : Nat) : Rn (aLk T47 σ) g 1 ls st h k s = (i_iload 1 2) g (Rn (aLk T47 σ) g) ls st h k s := Rn.go mo47 rfl g ls st h k s
theorem r47_2 (σ : Nat → Value) (g : aG) (ls st : List Value) (h : aH) (k s : Nat) : Rn (aLk T47 σ) g 2 ls st h k s = (i_callV [(0, 61)] 1 [] 5) g (Rn (aLk T47 σ) g) ls st h k s := Rn.go mo47 rfl g ls st h k s
theorem r47_5 (σ : Nat → Value) (g : aG) (ls st : List Value) (h : aH) (k s : Nat) : Rn (aLk T47 σ) g 5 ls st h k s = (i_aload 0 6) g (Rn (aLk T47 σ) g) ls st h k s := Rn.go mo47 rfl g ls st h k s
theorem r47_6 (σ : Nat → Value) (g : aG) (ls st : List Value) (h : aH) (k s : Nat) : Rn (aLk T47 σ) g 6 ls st h k s = (i_op o_dup 7) g (Rn (aLk T47 σ) g) ls st h k s := Rn.go mo47 rfl g ls st h k s
theorem r47_7 (σ : Nat → Value) (g : aG) (ls st : List Value) (h : aH) (k s : Nat) : Rn (aLk T47 σ) g 7 ls st h k s = (i_getf 0 0 10) g (Rn (aLk T47 σ) g) ls st h k s := Rn.go mo47 rfl g ls st h k s
theorem r47_10 (σ : Nat → Value) (g : aG) (ls st : List Value) (h : aH) (k s : Nat) : Rn (aLk T47 σ) g 10 ls st h k s = (i_op (o_int 1) 11) g (Rn (aLk T47 σ) g) ls st h k s := Rn.go mo47 rfl g ls st h k s
theorem r47_11 (σ : Nat → Value) (g : aG) (ls st : List Value) (h : aH) (k s : Nat) : Rn (aLk T47 σ) g 11 ls st h k s = (i_op o_iadd 12) g (Rn (aLk T47 σ) g) ls st h k s := Rn.go mo47 rfl g ls st h k s
theorem r47_12 (σ : Nat → Value) (g : aG) (ls st : List Value) (h : aH) (k s : Nat) : Rn (aLk T47 σ) g 12 ls st h k s = (i_putf 0 0 .int 15) g (Rn (aLk T47 σ) g) ls st h k s := Rn.go mo47 rfl g ls st h k s
theorem r47_15 (σ : Nat → Value) (g : aG) (ls st : List Value) (h : aH) (k s : Nat) : Rn (aLk T47 σ) g 15 ls st h k s = (i_aload 0 16) g (Rn (aLk T47 σ) g) ls st h k s := Rn.go mo47 rfl g ls st h k s
theorem r47_16 (σ : Nat → Value) (g : aG) (ls st : List Value) (h : aH) (k s : Nat) : Rn (aLk T47 σ) g 16 ls st h k s = (i_getf 0 2 19) g (Rn (aLk T47 σ) g) ls st h k s := Rn.go mo47 rfl g ls st h k s
theorem r47_19 (σ : Nat → Value) (g : aG) (ls st : List Value) (h : aH) (k s : Nat) : Rn (aLk T47 σ) g 19 ls st h k s = (i_op o_dup 20) g (Rn (aLk T47 σ) g) ls st h k s := Rn.go mo47 rfl g ls st h k s
theorem r47_20 (σ : Nat → Value) (g : aG) (ls st : List Value) (h : aH) (k s : Nat) : Rn (aLk T47 σ) g 20 ls st h k s = (i_istore 3 21) g (Rn (aLk T47 σ) g) ls st h k s := Rn.go mo47 rfl g ls st h k s
theorem r47_21 (σ : Nat → Value) (g : aG) (ls st : List Value) (h : aH) (k s : Nat) : Rn (aLk T47 σ) g 21 ls st h k s = (i_aload 0 22) g (Rn (aLk T47 σ) g) ls st h k s := Rn.go mo47 rfl g ls st h k s
theorem r47_22 (σ : Nat → Value) (g : aG) (ls st : List Value) (h : aH) (k s : Nat) : Rn (aLk T47 σ) g 22 ls st h k s = (i_getf 0 1 25) g (Rn (aLk T47 σ) g) ls st h k s := Rn.go mo47 rfl g ls st h k s
theorem r47_25 (σ : Nat → Value) (g : aG) (ls st : List Value) (h : aH) (k s : Nat) : Rn (aLk T47 σ) g 25 ls st h k s = (i_op o_dup 26) g (Rn (aLk T47 σ) g) ls st h k s := Rn.go mo47 rfl g ls st h k s
theorem r47_26 (σ : Nat → Value) (g : aG) (ls st : List Value) (h : aH) (k s : Nat) : Rn (aLk T47 σ) g 26 ls st h k s = (i_astore 4 28) g (Rn (aLk T47 σ) g) ls st h k s := Rn.go mo47 rfl g ls st h k s
theorem r47_28 (σ : Nat → Value) (g : aG) (ls st : List Value) (h : aH) (k s : Nat) : Rn (aLk T47 σ) g 28 ls st h k s = (i_alen 29) g (Rn (aLk T47 σ) g) ls st h k s := Rn.go mo47 rfl g ls st h k s
theorem r47_29 (σ : Nat → Value) (g : aG) (ls st : List Value) (h : aH) (k s : Nat) : Rn (aLk T47 σ) g 29 ls st h k s = (i_cne 38 32) g (Rn (aLk T47 σ) g) ls st h k s := Rn.go mo47 rfl g ls st h k s
theorem r47_32 (σ : Nat → Value) (g : aG) (ls st : List Value) (h : aH) (k s : Nat) : Rn (aLk T47 σ) g 32 ls st h k s = (i_aload 0 33) g (Rn (aLk T47 σ) g) ls st h k s := Rn.go mo47 rfl g ls st h k s
theorem r47_33 (σ : Nat → Value) (g : aG) (ls st : List Value) (h : aH) (k s : Nat) : Rn (aLk T47 σ) g 33 ls st h k s = (i_callV [(0, 55)] 0 [] 36) g (Rn (aLk T47 σ) g) ls st h k s := Rn.go mo47 rfl g ls st h k s
theorem r47_36 (σ : Nat → Value) (g : aG) (ls st : List Value) (h : aH) (k s : Nat) : Rn (aLk T47 σ) g 36 ls st h k s = (i_astore 4 38) g (Rn (aLk T47 σ) g) ls st h k s := Rn.go mo47 rfl g ls st h k s
theorem r47_38 (σ : Nat → Value) (g : aG) (ls st : List Value) (h : aH) (k s : Nat) : Rn (aLk T47 σ) g 38 ls st h k s = (i_aload 4 40) g (Rn (aLk T47 σ) g) ls st h k s := Rn.go mo47 rfl g ls st h k s
theorem r47_40 (σ : Nat → Value) (g : aG) (ls st : List Value) (h : aH) (k s : Nat) : Rn (aLk T47 σ) g 40 ls st h k s = (i_iload 1 41) g (Rn (aLk T47 σ) g) ls st h k s := Rn.go mo47 rfl g ls st h k s
theorem r47_41 (σ : Nat → Value) (g : aG) (ls st : List Value) (h : aH) (k s : Nat) : Rn (aLk T47 σ) g 41 ls st h k s = (i_aload 4 43) g (Rn (aLk T47 σ) g) ls st h k s := Rn.go mo47 rfl g ls st h k s
theorem r47_43 (σ : Nat → Value) (g : aG) (ls st : List Value) (h : aH) (k s : Nat) : Rn (aLk T47 σ) g 43 ls st h k s = (i_iload 1 44) g (Rn (aLk T47 σ) g) ls st h k s := Rn.go mo47 rfl g ls st h k s
theorem r47_44 (σ : Nat → Value) (g : aG) (ls st : List Value) (h : aH) (k s : Nat) : Rn (aLk T47 σ) g 44 ls st h k s = (i_op (o_int 1) 45) g (Rn (aLk T47 σ) g) ls st h k s := Rn.go mo47 rfl g ls st h k s
theorem r47_45 (σ : Nat → Value) (g : aG) (ls st : List Value) (h : aH) (k s : Nat) : Rn (aLk T47 σ) g 45 ls st h k s = (i_op o_iadd 46) g (Rn (aLk T47 σ) g) ls st h k s := Rn.go mo47 rfl g ls st h k s
theorem r47_46 (σ : Nat → Value) (g : aG) (ls st : List Value) (h : aH) (k s : Nat) : Rn (aLk T47 σ) g 46 ls st h k s = (i_iload 3 47) g (Rn (aLk T47 σ) g) ls st h k s := Rn.go mo47 rfl g ls st h k s
theorem r47_47 (σ : Nat → Value) (g : aG) (ls st : List Value) (h : aH) (k s : Nat) : Rn (aLk T47 σ) g 47 ls st h k s = (i_iload 1 48) g (Rn (aLk T47 σ) g) ls st h k s := Rn.go mo47 rfl g ls st h k s
theorem r47_48 (σ : Nat → Value) (g : aG) (ls st : List Value) (h : aH) (k s : Nat) : Rn (aLk T47 σ) g 48 ls st h k s = (i_op o_isub 49) g (Rn (aLk T47 σ) g) ls st h k s := Rn.go mo47 rfl g ls st h k s
theorem r47_49 (σ : Nat → Value) (g : aG) (ls st : List Value) (h : aH) (k s : Nat) : Rn (aLk T47 σ) g 49 ls st h k s = (i_acopy 52) g (Rn (aLk T47 σ) g) ls st h k s := Rn.go mo47 rfl g ls st h k s
theorem r47_52 (σ : Nat → Value) (g : aG) (ls st : List Value) (h : aH) (k s : Nat) : Rn (aLk T47 σ) g 52 ls st h k s = (i_aload 4 54) g (Rn (aLk T47 σ) g) ls st h k s := Rn.go mo47 rfl g ls st h k s
theorem r47_54 (σ : Nat → Value) (g : aG) (ls st : List Value) (h : aH) (k s : Nat) : Rn (aLk T47 σ) g 54 ls st h k s = (i_iload 1 55) g (Rn (aLk T47 σ) g) ls st h k s := Rn.go mo47 rfl g ls st h k s
theorem r47_55 (σ : Nat → Value) (g : aG) (ls st : List Value) (h : aH) (k s : Nat) : Rn (aLk T47 σ) g 55 ls st h k s = (i_aload 2 56) g (Rn (aLk T47 σ) g) ls st h k s := Rn.go mo47 rfl g ls st h k s
theorem r47_56 (σ : Nat → Value) (g : aG) (ls st : List Value) (h : aH) (k s : Nat) : Rn (aLk T47 σ) g 56 ls st h k s = (i_aast 57) g (Rn (aLk T47 σ) g) ls st h k s := Rn.go mo47 rfl g ls st h k s
theorem r47_57 (σ : Nat → Value) (g : aG) (ls st : List Value) (h : aH) (k s : Nat) : Rn (aLk T47 σ) g 57 ls st h k s = (i_aload 0 58) g (Rn (aLk T47 σ) g) ls st h k s := Rn.go mo47 rfl g ls st h k s
theorem r47_58 (σ : Nat → Value) (g : aG) (ls st : List Value) (h : aH) (k s : Nat) : Rn (aLk T47 σ) g 58 ls st h k s = (i_iload 3 59) g (Rn (aLk T47 σ) g) ls st h k s := Rn.go mo47 rfl g ls st h k s
theorem r47_59 (σ : Nat → Value) (g : aG) (ls st : List Value) (h : aH) (k s : Nat) : Rn (aLk T47 σ) g 59 ls st h k s = (i_op (o_int 1) 60) g (Rn (aLk T47 σ) g) ls st h k s := Rn.go mo47 rfl g ls st h k s
theorem r47_60 (σ : Nat → Value) (g : aG) (ls st : List Value) (h : aH) (k s : Nat) : Rn (aLk T47 σ) g 60 ls st h k s = (i_op o_iadd 61) g (Rn (aLk T47 σ) g) ls st h k s := Rn.go mo47 rfl g ls st h k s
theorem r47_61 (σ : Nat → Value) (g : aG) (ls st : List Value) (h : aH) (k s : Nat) : Rn (aLk T47 σ) g 61 ls st h k s = (i_putf 0 2 .int 64) g (Rn (aLk T47 σ) g) ls st h k s := Rn.go mo47 rfl g ls st h k s
theorem r47_64 (σ : Nat → Value) (g : aG) (ls st : List Value) (h : aH) (k s : Nat) : Rn (aLk T47 σ) g 64 ls st h k s = (i_ret) g (Rn (aLk T47 σ) g) ls st h k s := Rn.go mo47 rfl g ls st h k s
theorem r48_0 (σ : Nat → Value) (g : aG) (ls st : List Value) (h : aH) (k s : Nat) : Rn (aLk T48 σ) g 0 ls st h k s = (i_aload 0 1) g (Rn (aLk T48 σ) g) ls st h k s := Rn.go mo48 rfl g ls st h k s
theorem r48_1 (σ : Nat → Value) (g : aG) (ls st : List Value) (h : aH) (k s : Nat) : Rn (aLk T48 σ) g 1 ls st h k s = (i_op o_dup 2) g (Rn (aLk T48 σ) g) ls st h k s := Rn.go mo48 rfl g ls st h k s
theorem r48_2 (σ : Nat → Value) (g : aG) (ls st : List Value) (h : aH) (k s : Nat) : Rn (aLk T48 σ) g 2 ls st h k s = (i_getf 0 0 5) g (Rn (aLk T48 σ) g) ls st h k s := Rn.go mo48 rfl g ls st h k s
theorem r48_5 (σ : Nat → Value) (g : aG) (ls st : List Value) (h : aH) (k s : Nat) : Rn (aLk T48 σ) g 5 ls st h k s = (i_op (o_int 1) 6) g (Rn (aLk T48 σ) g) ls st h k s := Rn.go mo48 rfl g ls st h k s
theorem r48_6 (σ : Nat → Value) (g : aG) (ls st : List Value) (h : aH) (k s : Nat) : Rn (aLk T48 σ) g 6 ls st h k s = (i_op o_iadd 7) g (Rn (aLk T48 σ) g) ls st h k s := Rn.go mo48 rfl g ls st h k s
theorem r48_7 (σ : Nat → Value) (g : aG) (ls st : List Value) (h : aH) (k s : Nat) : Rn (aLk T48 σ) g 7 ls st h k s = (i_putf 0 0 .int 10) g (Rn (aLk T48 σ) g) ls st h k s := Rn.go mo48 rfl g ls st h k s
theorem r48_10 (σ : Nat → Value) (g : aG) (ls st : List Value) (h : aH) (k s : Nat) : Rn (aLk T48 σ) g 10 ls st h k s = (i_aload 0 11) g (Rn (aLk T48 σ) g) ls st h k s := Rn.go mo48 rfl g ls st h k s
theorem r48_11 (σ : Nat → Value) (g : aG) (ls st : List Value) (h : aH) (k s : Nat) : Rn (aLk T48 σ) g 11 ls st h k s = (i_aload 1 12) g (Rn (aLk T48 σ) g) ls st h k s := Rn.go mo48 rfl g ls st h k s
theorem r48_12 (σ : Nat → Value) (g : aG) (ls st : List Value) (h : aH) (k s : Nat) : Rn (aLk T48 σ) g 12 ls st h k s = (i_aload 0 13) g (Rn (aLk T48 σ) g) ls st h k s := Rn.go mo48 rfl g ls st h k s
theorem r48_13 (σ : Nat → Value) (g : aG) (ls st : List Value) (h : aH) (k s : Nat) : Rn (aLk T48 σ) g 13 ls st h k s = (i_getf 0 1 16) g (Rn (aLk T48 σ) g) ls st h k s := Rn.go mo48 rfl g ls st h k s
theorem r48_16 (σ : Nat → Value) (g : aG) (ls st : List Value) (h : aH) (k s : Nat) : Rn (aLk T48 σ) g 16 ls st h k s = (i_aload 0 17) g (Rn (aLk T48 σ) g) ls st h k s := Rn.go mo48 rfl g ls st h k s
theorem r48_17 (σ : Nat → Value) (g : aG) (ls st : List Value) (h : aH) (k s : Nat) : Rn (aLk T48 σ) g 17 ls st h k s = (i_getf 0 2 20) g (Rn (aLk T48 σ) g) ls st h k s := Rn.go mo48 rfl g ls st h k s
theorem r48_20 (σ : Nat → Value) (g : aG) (ls st : List Value) (h : aH) (k s : Nat) : Rn (aLk T48 σ) g 20 ls st h k s = (i_callV [(0, 49)] 3 [] 23) g (Rn (aLk T48 σ) g) ls st h k s := Rn.go mo48 rfl g ls st h k s
theorem r48_23 (σ : Nat → Value) (g : aG) (ls st : List Value) (h : aH) (k s : Nat) : Rn (aLk T48 σ) g 23 ls st h k s = (i_op (o_int 1) 24) g (Rn (aLk T48 σ) g) ls st h k s := Rn.go mo48 rfl g ls st h k s
theorem r48_24 (σ : Nat → Value) (g : aG) (ls st : List Value) (h : aH) (k s : Nat) : Rn (aLk T48 σ) g 24 ls st h k s = (i_iret .boolean) g (Rn (aLk T48 σ) g) ls st h k s := Rn.go mo48 rfl g ls st h k s
theorem r49_0 (σ : Nat → Value) (g : aG) (ls st : List Value) (h : aH) (k s : Nat) : Rn (aLk T49 σ) g 0 ls st h k s = (i_iload 3 1) g (Rn (aLk T49 σ) g) ls st h k s := Rn.go mo49 rfl g ls st h k s
theorem r49_1 (σ : Nat → Value) (g : aG) (ls st : List Value) (h : aH) (k s : Nat) : Rn (aLk T49 σ) g 1 ls st h k s = (i_aload 2 2) g (Rn (aLk T49 σ) g) ls st h k s := Rn.go mo49 rfl g ls st h k s
theorem r49_2 (σ : Nat → Value) (g : aG) (ls st : List Value) (h : aH) (k s : Nat) : Rn (aLk T49 σ) g 2 ls st h k s = (i_alen 3) g (Rn (aLk T49 σ) g) ls st h k s := Rn.go mo49 rfl g ls st h k s
theorem r49_3 (σ : Nat → Value) (g : aG) (ls st : List Value) (h : aH) (k s : Nat) : Rn (aLk T49 σ) g 3 ls st h k s = (i_cne 11 6) g (Rn (aLk T49 σ) g) ls st h k s := Rn.go mo49 rfl g ls st h k s
theorem r49_6 (σ : Nat → Value) (g : aG) (ls st : List Value) (h : aH) (k s : Nat) : Rn (aLk T49 σ) g 6 ls st h k s = (i_aload 0 7) g (Rn (aLk T49 σ) g) ls st h k s := Rn.go mo49 rfl g ls st h k s
theorem r49_7 (σ : Nat → Value) (g : aG) (ls st : List Value) (h : aH) (k s : Nat) : Rn (aLk T49 σ) g 7 ls st h k s = (i_callV [(0, 55)] 0 [] 10) g (Rn (aLk T49 σ) g) ls st h k s := Rn.go mo49 rfl g ls st h k s
theorem r49_10 (σ : Nat → Value) (g : aG) (ls st : List Value) (h : aH) (k s : Nat) : Rn (aLk T49 σ) g 10 ls st h k s = (i_astore 2 11) g (Rn (aLk T49 σ) g) ls st h k s := Rn.go mo49 rfl g ls st h k s
theorem r49_11 (σ : Nat → Value) (g : aG) (ls st : List Value) (h : aH) (k s : Nat) : Rn (aLk T49 σ) g 11 ls st h k s = (i_aload 2 12) g (Rn (aLk T49 σ) g) ls st h k s := Rn.go mo49 rfl g ls st h k s
theorem r49_12 (σ : Nat → Value) (g : aG) (ls st : List Value) (h : aH) (k s : Nat) : Rn (aLk T49 σ) g 12 ls st h k s = (i_iload 3 13) g (Rn (aLk T49 σ) g) ls st h k s := Rn.go mo49 rfl g ls st h k s
theorem r49_13 (σ : Nat → Value) (g : aG) (ls st : List Value) (h : aH) (k s : Nat) : Rn (aLk T49 σ) g 13 ls st h k s = (i_aload 1 14) g (Rn (aLk T49 σ) g) ls st h k s := Rn.go mo49 rfl g ls st h k s
theorem r49_14 (σ : Nat → Value) (g : aG) (ls st : List Value) (h : aH) (k s : Nat) : Rn (aLk T49 σ) g 14 ls st h k s = (i_aast 15) g (Rn (aLk T49 σ) g) ls st h k s := Rn.go mo49 rfl g ls st h k s
theorem r49_15 (σ : Nat → Value) (g : aG) (ls st : List Value) (h : aH) (k s : Nat) : Rn (aLk T49 σ) g 15 ls st h k s = (i_aload 0 16) g (Rn (aLk T49 σ) g) ls st h k s := Rn.go mo49 rfl g ls st h k s
theorem r49_16 (σ : Nat → Value) (g : aG) (ls st : List Value) (h : aH) (k s : Nat) : Rn (aLk T49 σ) g 16 ls st h k s = (i_iload 3 17) g (Rn (aLk T49 σ) g) ls st h k s := Rn.go mo49 rfl g ls st h k s
theorem r49_17 (σ : Nat → Value) (g : aG) (ls st : List Value) (h : aH) (k s : Nat) : Rn (aLk T49 σ) g 17 ls st h k s = (i_op (o_int 1) 18) g (Rn (aLk T49 σ) g) ls st h k s := Rn.go mo49 rfl g ls st h k s
theorem r49_18 (σ : Nat → Value) (g : aG) (ls st : List Value) (h : aH) (k s : Nat) : Rn (aLk T49 σ) g 18 ls st h k s = (i_op o_iadd 19) g (Rn (aLk T49 σ) g) ls st h k s := Rn.go mo49 rfl g ls st h k s
theorem r49_19 (σ : Nat → Value) (g : aG) (ls st : List Value) (h : aH) (k s : Nat) : Rn (aLk T49 σ) g 19 ls st h k s = (i_putf 0 2 .int 22) g (Rn (aLk T49 σ) g) ls st h k s := Rn.go mo49 rfl g ls st h k s
theorem r49_22 (σ : Nat → Value) (g : aG) (ls st : List Value) (h : aH) (k s : Nat) : Rn (aLk T49 σ) g 22 ls st h k s = (i_ret) g (Rn (aLk T49 σ) g) ls st h k s := Rn.go mo49 rfl g ls st h k s
theorem r50_0 (σ : Nat → Value) (g : aG) (ls st : List Value) (h : aH) (k s : Nat) : Rn (aLk T50 σ) g 0 ls st h k s = (i_aload 1 1) g (Rn (aLk T50 σ) g) ls st h k s := Rn.go mo50 rfl g ls st h k s
theorem r50_1 (σ : Nat → Value) (g : aG) (ls st : List Value) (h : aH) (k s : Nat) : Rn (aLk T50 σ) g 1 ls st h k s = (i_callV [(0, 64)] 0 [] 6) g (Rn (aLk T50 σ) g) ls st h k s := Rn.go mo50 rfl g ls st h k s
theorem r50_6 (σ : Nat → Value) (g : aG) (ls st : List Value) (h : aH) (k s : Nat) : Rn (aLk T50 σ) g 6 ls st h k s = (i_astore 2 7) g (Rn (aLk T50 σ) g) ls st h k s := Rn.go mo50 rfl g ls st h k s
theorem r50_7 (σ : Nat → Value) (g : aG) (ls st : List Value) (h : aH) (k s : Nat) : Rn (aLk T50 σ) g 7 ls st h k s = (i_aload 0 8) g (Rn (aLk T50 σ) g) ls st h k s := Rn.go mo50 rfl g ls st h k s
theorem r50_8 (σ : Nat → Value) (g : aG) (ls st : List Value) (h : aH) (k s : Nat) : Rn (aLk T50 σ) g 8 ls st h k s = (i_op o_dup 9) g (Rn (aLk T50 σ) g) ls st h k s := Rn.go mo50 rfl g ls st h k s
theorem r50_9 (σ : Nat → Value) (g : aG) (ls st : List Value) (h : aH) (k s : Nat) : Rn (aLk T50 σ) g 9 ls st h k s = (i_getf 0 0 12) g (Rn (aLk T50 σ) g) ls st h k s := Rn.go mo50 rfl g ls st h k s
theorem r50_12 (σ : Nat → Value) (g : aG) (ls st : List Value) (h : aH) (k s : Nat) : Rn (aLk T50 σ) g 12 ls st h k s = (i_op (o_int 1) 13) g (Rn (aLk T50 σ) g) ls st h k s := Rn.go mo50 rfl g ls st h k s
theorem r50_13 (σ : Nat → Value) (g : aG) (ls st : List Value) (h : aH) (k s : Nat) : Rn (aLk T50 σ) g 13 ls st h k s = (i_op o_iadd 14) g (Rn (aLk T50 σ) g) ls st h k s := Rn.go mo50 rfl g ls st h k s
theorem r50_14 (σ : Nat → Value) (g : aG) (ls st : List Value) (h : aH) (k s : Nat) : Rn (aLk T50 σ) g 14 ls st h k s = (i_putf 0 0 .int 17) g (Rn (aLk T50 σ) g) ls st h k s := Rn.go mo50 rfl g ls st h k s
theorem r50_17 (σ : Nat → Value) (g : aG) (ls st : List Value) (h : aH) (k s : Nat) : Rn (aLk T50 σ) g 17 ls st h k s = (i_aload 2 18) g (Rn (aLk T50 σ) g) ls st h k s := Rn.go mo50 rfl g ls st h k s
theorem r50_18 (σ : Nat → Value) (g : aG) (ls st : List Value) (h : aH) (k s : Nat) : Rn (aLk T50 σ) g 18 ls st h k s = (i_alen 19) g (Rn (aLk T50 σ) g) ls st h k s := Rn.go mo50 rfl g ls st h k s
theorem r50_19 (σ : Nat → Value) (g : aG) (ls st : List Value) (h : aH) (k s : Nat) : Rn (aLk T50 σ) g 19 ls st h k s = (i_istore 3 20) g (Rn (aLk T50 σ) g) ls st h k s := Rn.go mo50 rfl g ls st h k s
theorem r50_20 (σ : Nat → Value) (g : aG) (ls st : List Value) (h : aH) (k s : Nat) : Rn (aLk T50 σ) g 20 ls st h k s = (i_iload 3 21) g (Rn (aLk T50 σ) g) ls st h k s := Rn.go mo50 rfl g ls st h k s
theorem r50_21 (σ : Nat → Value) (g : aG) (ls st : List Value) (h : aH) (k s : Nat) : Rn (aLk T50 σ) g 21 ls st h k s = (i_ifne 26 24) g (Rn (aLk T50 σ) g) ls st h k s := Rn.go mo50 rfl g ls st h k s
theorem r50_24 (σ : Nat → Value) (g : aG) (ls st : List Value) (h : aH) (k s : Nat) : Rn (aLk T50 σ) g 24 ls st h k s = (i_op (o_int 0) 25) g (Rn (aLk T50 σ) g) ls st h k s := Rn.go mo50 rfl g ls st h k s
theorem r50_25 (σ : Nat → Value) (g : aG) (ls st : List Value) (h : aH) (k s : Nat) : Rn (aLk T50 σ) g 25 ls st h k s = (i_iret .boolean) g (Rn (aLk T50 σ) g) ls st h k s := Rn.go mo50 rfl g ls st h k s
theorem r50_26 (σ : Nat → Value) (g : aG) (ls st : List Value) (h : aH) (k s : Nat) : Rn (aLk T50 σ) g 26 ls st h k s = (i_iload 3 27) g (Rn (aLk T50 σ) g) ls st h k s := Rn.go mo50 rfl g ls st h k s
theorem r50_27 (σ : Nat → Value) (g : aG) (ls st : List Value) (h : aH) (k s : Nat) : Rn (aLk T50 σ) g 27 ls st h k s = (i_aload 0 28) g (Rn (aLk T50 σ) g) ls st h k s := Rn.go mo50 rfl g ls st h k s
theorem r50_28 (σ : Nat → Value) (g : aG) (ls st : List Value) (h : aH) (k s : Nat) : Rn (aLk T50 σ) g 28 ls st h k s = (i_getf 0 1 31) g (Rn (aLk T50 σ) g) ls st h k s := Rn.go mo50 rfl g ls st h k s
theorem r50_31 (σ : Nat → Value) (g : aG) (ls st : List Value) (h : aH) (k s : Nat) : Rn (aLk T50 σ) g 31 ls st h k s = (i_op o_dup 32) g (Rn (aLk T50 σ) g) ls st h k s := Rn.go mo50 rfl g ls st h k s
theorem r50_32 (σ : Nat → Value) (g : aG) (ls st : List Value) (h : aH) (k s : Nat) : Rn (aLk T50 σ) g 32 ls st h k s = (i_astore 4 34) g (Rn (aLk T50 σ) g) ls st h k s := Rn.go mo50 rfl g ls st h k s
theorem r50_34 (σ : Nat → Value) (g : aG) (ls st : List Value) (h : aH) (k s : Nat) : Rn (aLk T50 σ) g 34 ls st h k s = (i_alen 35) g (Rn (aLk T50 σ) g) ls st h k s := Rn.go mo50 rfl g ls st h k s
theorem r50_35 (σ : Nat → Value) (g : aG) (ls st : List Value) (h : aH) (k s : Nat) : Rn (aLk T50 σ) g 35 ls st h k s = (i_aload 0 36) g (Rn (aLk T50 σ) g) ls st h k s := Rn.go mo50 rfl g ls st h k s
theorem r50_36 (σ : Nat → Value) (g : aG) (ls st : List Value) (h : aH) (k s : Nat) : Rn (aLk T50 σ) g 36 ls st h k s = (i_getf 0 2 39) g (Rn (aLk T50 σ) g) ls st h k s := Rn.go mo50 rfl g ls st h k s
theorem r50_39 (σ : Nat → Value) (g : aG) (ls st : List Value) (h : aH) (k s : Nat) : Rn (aLk T50 σ) g 39 ls st h k s = (i_op o_dup 40) g (Rn (aLk T50 σ) g) ls st h k s := Rn.go mo50 rfl g ls st h k s
theorem r50_40 (σ : Nat → Value) (g : aG) (ls st : List Value) (h : aH) (k s : Nat) : Rn (aLk T50 σ) g 40 ls st h k s = (i_istore 5 42) g (Rn (aLk T50 σ) g) ls st h k s := Rn.go mo50 rfl g ls st h k s
theorem r50_42 (σ : Nat → Value) (g : aG) (ls st : List Value) (h : aH) (k s : Nat) : Rn (aLk T50 σ) g 42 ls st h k s = (i_op o_isub 43) g (Rn (aLk T50 σ) g) ls st h k s := Rn.go mo50 rfl g ls st h k s
theorem r50_43 (σ : Nat → Value) (g : aG) (ls st : List Value) (h : aH) (k s : Nat) : Rn (aLk T50 σ) g 43 ls st h k s = (i_cle 56 46) g (Rn (aLk T50 σ) g) ls st h k s := Rn.go mo50 rfl g ls st h k s
theorem r50_46 (σ : Nat → Value) (g : aG) (ls st : List Value) (h : aH) (k s : Nat) : Rn (aLk T50 σ) g 46 ls st h k s = (i_aload 0 47) g (Rn (aLk T50 σ) g) ls st h k s := Rn.go mo50 rfl g ls st h k s
theorem r50_47 (σ : Nat → Value) (g : aG) (ls st : List Value) (h : aH) (k s : Nat) : Rn (aLk T50 σ) g 47 ls st h k s = (i_iload 5 49) g (Rn (aLk T50 σ) g) ls st h k s := Rn.go mo50 rfl g ls st h k s
theorem r50_49 (σ : Nat → Value) (g : aG) (ls st : List Value) (h : aH) (k s : Nat) : Rn (aLk T50 σ) g 49 ls st h k s = (i_iload 3 50) g (Rn (aLk T50 σ) g) ls st h k s := Rn.go mo50 rfl g ls st h k s
theorem r50_50 (σ : Nat → Value) (g : aG) (ls st : List Value) (h : aH) (k s : Nat) : Rn (aLk T50 σ) g 50 ls st h k s = (i_op o_iadd 51) g (Rn (aLk T50 σ) g) ls st h k s := Rn.go mo50 rfl g ls st h k s
theorem r50_51 (σ : Nat → Value) (g : aG) (ls st : List Value) (h : aH) (k s : Nat) : Rn (aLk T50 σ) g 51 ls st h k s = (i_callV [(0, 56)] 1 [] 54) g (Rn (aLk T50 σ) g) ls st h k s := Rn.go mo50 rfl g ls st h k s
theorem r50_54 (σ : Nat → Value) (g : aG) (ls st : List Value) (h : aH) (k s : Nat) : Rn (aLk T50 σ) g 54 ls st h k s = (i_astore 4 56) g (Rn (aLk T50 σ) g) ls st h k s := Rn.go mo50 rfl g ls st h k s
theorem r50_56 (σ : Nat → Value) (g : aG) (ls st : List Value) (h : aH) (k s : Nat) : Rn (aLk T50 σ) g 56 ls st h k s = (i_aload 2 57) g (Rn (aLk T50 σ) g) ls st h k s := Rn.go mo50 rfl g ls st h k s
theorem r50_57 (σ : Nat → Value) (g : aG) (ls st : List Value) (h : aH) (k s : Nat) : Rn (aLk T50 σ) g 57 ls st h k s = (i_op (o_int 0) 58) g (Rn (aLk T50 σ) g) ls st h k s := Rn.go mo50 rfl g ls st h k s
theorem r50_58 (σ : Nat → Value) (g : aG) (ls st : List Value) (h : aH) (k s : Nat) : Rn (aLk T50 σ) g 58 ls st h k s = (i_aload 4 60) g (Rn (aLk T50 σ) g) ls st h k s := Rn.go mo50 rfl g ls st h k s
theorem r50_60 (σ : Nat → Value) (g : aG) (ls st : List Value) (h : aH) (k s : Nat) : Rn (aLk T50 σ) g 60 ls st h k s = (i_iload 5 62) g (Rn (aLk T50 σ) g) ls st h k s := Rn.go mo50 rfl g ls st h k s
theorem r50_62 (σ : Nat → Value) (g : aG) (ls st : List Value) (h : aH) (k s : Nat) : Rn (aLk T50 σ) g 62 ls st h k s = (i_iload 3 63) g (Rn (aLk T50 σ) g) ls st h k s := Rn.go mo50 rfl g ls st h k s
theorem r50_63 (σ : Nat → Value) (g : aG) (ls st : List Value) (h : aH) (k s : Nat) : Rn (aLk T50 σ) g 63 ls st h k s = (i_acopy 66) g (Rn (aLk T50 σ) g) ls st h k s := Rn.go mo50 rfl g ls st h k s
theorem r50_66 (σ : Nat → Value) (g : aG) (ls st : List Value) (h : aH) (k s : Nat) : Rn (aLk T50 σ) g 66 ls st h k s = (i_aload 0 67) g (Rn (aLk T50 σ) g) ls st h k s := Rn.go mo50 rfl g ls st h k s
theorem r50_67 (σ : Nat → Value) (g : aG) (ls st : List Value) (h : aH) (k s : Nat) : Rn (aLk T50 σ) g 67 ls st h k s = (i_iload 5 69) g (Rn (aLk T50 σ) g) ls st h k s := Rn.go mo50 rfl g ls st h k s
theorem r50_69 (σ : Nat → Value) (g : aG) (ls st : List Value) (h : aH) (k s : Nat) : Rn (aLk T50 σ) g 69 ls st h k s = (i_iload 3 70) g (Rn (aLk T50 σ) g) ls st h k s := Rn.go mo50 rfl g ls st h k s
theorem r50_70 (σ : Nat → Value) (g : aG) (ls st : List Value) (h : aH) (k s : Nat) : Rn (aLk T50 σ) g 70 ls st h k s = (i_op o_iadd 71) g (Rn (aLk T50 σ) g) ls st h k s := Rn.go mo50 rfl g ls st h k s
theorem r50_71 (σ : Nat → Value) (g : aG) (ls st : List Value) (h : aH) (k s : Nat) : Rn (aLk T50 σ) g 71 ls st h k s = (i_putf 0 2 .int 74) g (Rn (aLk T50 σ) g) ls st h k s := Rn.go mo50 rfl g ls st h k s
theorem r50_74 (σ : Nat → Value) (g : aG) (ls st : List Value) (h : aH) (k s : Nat) : Rn (aLk T50 σ) g 74 ls st h k s = (i_op (o_int 1) 75) g (Rn (aLk T50 σ) g) ls st h k s := Rn.go mo50 rfl g ls st h k s
theorem r50_75 (σ : Nat → Value) (g : aG) (ls st : List Value) (h : aH) (k s : Nat) : Rn (aLk T50 σ) g 75 ls st h k s = (i_iret .boolean) g (Rn (aLk T50 σ) g) ls st h k s := Rn.go mo50 rfl g ls st h k s
theorem r51_0 (σ : Nat → Value) (g : aG) (ls st : List Value) (h : aH) (k s : Nat) : Rn (aLk T51 σ) g 0 ls st h k s = (i_aload 0 1) g (Rn (aLk T51 σ) g) ls st h k s := Rn.go mo51 rfl g ls st h k s
theorem r51_1 (σ : Nat → Value) (g : aG) (ls st : List Value) (h : aH) (k s : Nat) : Rn (aLk T51 σ) g 1 ls st h k s = (i_op o_dup 2) g (Rn (aLk T51 σ) g) ls st h k s := Rn.go mo51 rfl g ls st h k s
theorem r51_2 (σ : Nat → Value) (g : aG) (ls st : List Value) (h : aH) (k s : Nat) : Rn (aLk T51 σ) g 2 ls st h k s = (i_getf 0 0 5) g (Rn (aLk T51 σ) g) ls st h k s := Rn.go mo51 rfl g ls st h k s
theorem r51_5 (σ : Nat → Value) (g : aG) (ls st : List Value) (h : aH) (k s : Nat) : Rn (aLk T51 σ) g 5 ls st h k s = (i_op (o_int 1) 6) g (Rn (aLk T51 σ) g) ls st h k s := Rn.go mo51 rfl g ls st h k s
theorem r51_6 (σ : Nat → Value) (g : aG) (ls st : List Value) (h : aH) (k s : Nat) : Rn (aLk T51 σ) g 6 ls st h k s = (i_op o_iadd 7) g (Rn (aLk T51 σ) g) ls st h k s := Rn.go mo51 rfl g ls st h k s
theorem r51_7 (σ : Nat → Value) (g : aG) (ls st : List Value) (h : aH) (k s : Nat) : Rn (aLk T51 σ) g 7 ls st h k s = (i_putf 0 0 .int 10) g (Rn (aLk T51 σ) g) ls st h k s := Rn.go mo51 rfl g ls st h k s
theorem r51_10 (σ : Nat → Value) (g : aG) (ls st : List Value) (h : aH) (k s : Nat) : Rn (aLk T51 σ) g 10 ls st h k s = (i_aload 0 11) g (Rn (aLk T51 σ) g) ls st h k s := Rn.go mo51 rfl g ls st h k s
theorem r51_11 (σ : Nat → Value) (g : aG) (ls st : List Value) (h : aH) (k s : Nat) : Rn (aLk T51 σ) g 11 ls st h k s = (i_getf 0 1 14) g (Rn (aLk T51 σ) g) ls st h k s := Rn.go mo51 rfl g ls st h k s
theorem r51_14 (σ : Nat → Value) (g : aG) (ls st : List Value) (h : aH) (k s : Nat) : Rn (aLk T51 σ) g 14 ls st h k s = (i_astore 1 15) g (Rn (aLk T51 σ) g) ls st h k s := Rn.go mo51 rfl g ls st h k s
theorem r51_15 (σ : Nat → Value) (g : aG) (ls st : List Value) (h : aH) (k s : Nat) : Rn (aLk T51 σ) g 15 ls st h k s = (i_aload 0 16) g (Rn (aLk T51 σ) g) ls st h k s := Rn.go mo51 rfl g ls st h k s
theorem r51_16 (σ : Nat → Value) (g : aG) (ls st : List Value) (h : aH) (k s : Nat) : Rn (aLk T51 σ) g 16 ls st h k s = (i_getf 0 2 19) g (Rn (aLk T51 σ) g) ls st h k s := Rn.go mo51 rfl g ls st h k s
theorem r51_19 (σ : Nat → Value) (g : aG) (ls st : List Value) (h : aH) (k s : Nat) : Rn (aLk T51 σ) g 19 ls st h k s = (i_istore 2 20) g (Rn (aLk T51 σ) g) ls st h k s := Rn.go mo51 rfl g ls st h k s
theorem r51_20 (σ : Nat → Value) (g : aG) (ls st : List Value) (h : aH) (k s : Nat) : Rn (aLk T51 σ) g 20 ls st h k s = (i_aload 0 21) g (Rn (aLk T51 σ) g) ls st h k s := Rn.go mo51 rfl g ls st h k s
theorem r51_21 (σ : Nat → Value) (g : aG) (ls st : List Value) (h : aH) (k s : Nat) : Rn (aLk T51 σ) g 21 ls st h k s = (i_op (o_int 0) 22) g (Rn (aLk T51 σ) g) ls st h k s := Rn.go mo51 rfl g ls st h k s
theorem r51_22 (σ : Nat → Value) (g : aG) (ls st : List Value) (h : aH) (k s : Nat) : Rn (aLk T51 σ) g 22 ls st h k s = (i_op o_dup_x1 23) g (Rn (aLk T51 σ) g) ls st h k s := Rn.go mo51 rfl g ls st h k s
theorem r51_23 (σ : Nat → Value) (g : aG) (ls st : List Value) (h : aH) (k s : Nat) : Rn (aLk T51 σ) g 23 ls st h k s = (i_putf 0 2 .int 26) g (Rn (aLk T51 σ) g) ls st h k s := Rn.go mo51 rfl g ls st h k s
theorem r51_26 (σ : Nat → Value) (g : aG) (ls st : List Value) (h : aH) (k s : Nat) : Rn (aLk T51 σ) g 26 ls st h k s = (i_istore 3 27) g (Rn (aLk T51 σ) g) ls st h k s := Rn.go mo51 rfl g ls st h k s
theorem r51_27 (σ : Nat → Value) (g : aG) (ls st : List Value) (h : aH) (k s : Nat) : Rn (aLk T51 σ) g 27 ls st h k s = (i_iload 3 28) g (Rn (aLk T51 σ) g) ls st h k s := Rn.go mo51 rfl g ls st h k s
theorem r51_28 (σ : Nat → Value) (g : aG) (ls st : List Value) (h : aH) (k s : Nat) : Rn (aLk T51 σ) g 28 ls st h k s = (i_iload 2 29) g (Rn (aLk T51 σ) g) ls st h k s := Rn.go mo51 rfl g ls st h k s
theorem r51_29 (σ : Nat → Value) (g : aG) (ls st : List Value) (h : aH) (k s : Nat) : Rn (aLk T51 σ) g 29 ls st h k s = (i_cge 42 32) g (Rn (aLk T51 σ) g) ls st h k s := Rn.go mo51 rfl g ls st h k s
theorem r51_32 (σ : Nat → Value) (g : aG) (ls st : List Value) (h : aH) (k s : Nat) : Rn (aLk T51 σ) g 32 ls st h k s = (i_aload 1 33) g (Rn (aLk T51 σ) g) ls st h k s := Rn.go mo51 rfl g ls st h k s
theorem r51_33 (σ : Nat → Value) (g : aG) (ls st : List Value) (h : aH) (k s : Nat) : Rn (aLk T51 σ) g 33 ls st h k s = (i_iload 3 34) g (Rn (aLk T51 σ) g) ls st h k s := Rn.go mo51 rfl g ls st h k s
theorem r51_34 (σ : Nat → Value) (g : aG) (ls st : List Value) (h : aH) (k s : Nat) : Rn (aLk T51 σ) g 34 ls st h k s = (i_op o_null 35) g (Rn (aLk T51 σ) g) ls st h k s := Rn.go mo51 rfl g ls st h k s
theorem r51_35 (σ : Nat → Value) (g : aG) (ls st : List Value) (h : aH) (k s : Nat) : Rn (aLk T51 σ) g 35 ls st h k s = (i_aast 36) g (Rn (aLk T51 σ) g) ls st h k s := Rn.go mo51 rfl g ls st h k s
theorem r51_36 (σ : Nat → Value) (g : aG) (ls st : List Value) (h : aH) (k s : Nat) : Rn (aLk T51 σ) g 36 ls st h k s = (i_iinc 3 1 39) g (Rn (aLk T51 σ) g) ls st h k s := Rn.go mo51 rfl g ls st h k s
theorem r51_39 (σ : Nat → Value) (g : aG) (ls st : List Value) (h : aH) (k s : Nat) : Rn (aLk T51 σ) g 39 ls st h k s = (i_goto 27) g (Rn (aLk T51 σ) g) ls st h k s := Rn.go mo51 rfl g ls st h k s
theorem r51_42 (σ : Nat → Value) (g : aG) (ls st : List Value) (h : aH) (k s : Nat) : Rn (aLk T51 σ) g 42 ls st h k s = (i_ret) g (Rn (aLk T51 σ) g) ls st h k s := Rn.go mo51 rfl g ls st h k s
theorem r52_0 (σ : Nat → Value) (g : aG) (ls st : List Value) (h : aH) (k s : Nat) : Rn (aLk T52 σ) g 0 ls st h k s = (i_aload 0 1) g (Rn (aLk T52 σ) g) ls st h k s := Rn.go mo52 rfl g ls st h k s
theorem r52_1 (σ : Nat → Value) (g : aG) (ls st : List Value) (h : aH) (k s : Nat) : Rn (aLk T52 σ) g 1 ls st h k s = (i_getf 0 1 4) g (Rn (aLk T52 σ) g) ls st h k s := Rn.go mo52 rfl g ls st h k s
theorem r52_4 (σ : Nat → Value) (g : aG) (ls st : List Value) (h : aH) (k s : Nat) : Rn (aLk T52 σ) g 4 ls st h k s = (i_iload 1 5) g (Rn (aLk T52 σ) g) ls st h k s := Rn.go mo52 rfl g ls st h k s
theorem r52_5 (σ : Nat → Value) (g : aG) (ls st : List Value) (h : aH) (k s : Nat) : Rn (aLk T52 σ) g 5 ls st h k s = (i_aald [4, 5, 6, 7, 1004, 1008, 1009] 6) g (Rn (aLk T52 σ) g) ls st h k s := Rn.go mo52 rfl g ls st h k s
theorem r52_6 (σ : Nat → Value) (g : aG) (ls st : List Value) (h : aH) (k s : Nat) : Rn (aLk T52 σ) g 6 ls st h k s = (i_aret) g (Rn (aLk T52 σ) g) ls st h k s := Rn.go mo52 rfl g ls st h k s
theorem r53_0 (σ : Nat → Value) (g : aG) (ls st : List Value) (h : aH) (k s : Nat) : Rn (aLk T53 σ) g 0 ls st h k s = (i_aload 0 1) g (Rn (aLk T53 σ) g) ls st h k s := Rn.go mo53 rfl g ls st h k s
theorem r53_1 (σ : Nat → Value) (g : aG) (ls st : List Value) (h : aH) (k s : Nat) : Rn (aLk T53 σ) g 1 ls st h k s = (i_op o_dup 2) g (Rn (aLk T53 σ) g) ls st h k s := Rn.go mo53 rfl g ls st h k s
theorem r53_2 (σ : Nat → Value) (g : aG) (ls st : List Value) (h : aH) (k s : Nat) : Rn (aLk T53 σ) g 2 ls st h k s = (i_getf 0 0 5) g (Rn (aLk T53 σ) g) ls st h k s := Rn.go mo53 rfl g ls st h k s
theorem r53_5 (σ : Nat → Value) (g : aG) (ls st : List Value) (h : aH) (k s : Nat) : Rn (aLk T53 σ) g 5 ls st h k s = (i_op (o_int 1) 6) g (Rn (aLk T53 σ) g) ls st h k s := Rn.go mo53 rfl g ls st h k s
theorem r53_6 (σ : Nat → Value) (g : aG) (ls st : List Value) (h : aH) (k s : Nat) : Rn (aLk T53 σ) g 6 ls st h k s = (i_op o_iadd 7) g (Rn (aLk T53 σ) g) ls st h k s := Rn.go mo53 rfl g ls st h k s
theorem r53_7 (σ : Nat → Value) (g : aG) (ls st : List Value) (h : aH) (k s : Nat) : Rn (aLk T53 σ) g 7 ls st h k s = (i_putf 0 0 .int 10) g (Rn (aLk T53 σ) g) ls st h k s := Rn.go mo53 rfl g ls st h k s
theorem r53_10 (σ : Nat → Value) (g : aG) (ls st : List Value) (h : aH) (k s : Nat) : Rn (aLk T53 σ) g 10 ls st h k s = (i_aload 0 11) g (Rn (aLk T53 σ) g) ls st h k s := Rn.go mo53 rfl g ls st h k s
theorem r53_11 (σ : Nat → Value) (g : aG) (ls st : List Value) (h : aH) (k s : Nat) : Rn (aLk T53 σ) g 11 ls st h k s = (i_getf 0 2 14) g (Rn (aLk T53 σ) g) ls st h k s := Rn.go mo53 rfl g ls st h k s
theorem r53_14 (σ : Nat → Value) (g : aG) (ls st : List Value) (h : aH) (k s : Nat) : Rn (aLk T53 σ) g 14 ls st h k s = (i_op (o_int 1) 15) g (Rn (aLk T53 σ) g) ls st h k s := Rn.go mo53 rfl g ls st h k s
theorem r53_15 (σ : Nat → Value) (g : aG) (ls st : List Value) (h : aH) (k s : Nat) : Rn (aLk T53 σ) g 15 ls st h k s = (i_op o_isub 16) g (Rn (aLk T53 σ) g) ls st h k s := Rn.go mo53 rfl g ls st h k s
theorem r53_16 (σ : Nat → Value) (g : aG) (ls st : List Value) (h : aH) (k s : Nat) : Rn (aLk T53 σ) g 16 ls st h k s = (i_op o_dup 17) g (Rn (aLk T53 σ) g) ls st h k s := Rn.go mo53 rfl g ls st h k s
theorem r53_17 (σ : Nat → Value) (g : aG) (ls st : List Value) (h : aH) (k s : Nat) : Rn (aLk T53 σ) g 17 ls st h k s = (i_istore 3 18) g (Rn (aLk T53 σ) g) ls st h k s := Rn.go mo53 rfl g ls st h k s
theorem r53_18 (σ : Nat → Value) (g : aG) (ls st : List Value) (h : aH) (k s : Nat) : Rn (aLk T53 σ) g 18 ls st h k s = (i_iload 2 19) g (Rn (aLk T53 σ) g) ls st h k s := Rn.go mo53 rfl g ls st h k s
theorem r53_19 (σ : Nat → Value) (g : aG) (ls st : List Value) (h : aH) (k s : Nat) : Rn (aLk T53 σ) g 19 ls st h k s = (i_cle 34 22) g (Rn (aLk T53 σ) g) ls st h k s := Rn.go mo53 rfl g ls st h k s
theorem r53_22 (σ : Nat → Value) (g : aG) (ls st : List Value) (h : aH) (k s : Nat) : Rn (aLk T53 σ) g 22 ls st h k s = (i_aload 1 23) g (Rn (aLk T53 σ) g) ls st h k s := Rn.go mo53 rfl g ls st h k s
theorem r53_23 (σ : Nat → Value) (g : aG) (ls st : List Value) (h : aH) (k s : Nat) : Rn (aLk T53 σ) g 23 ls st h k s = (i_iload 2 24) g (Rn (aLk T53 σ) g) ls st h k s := Rn.go mo53 rfl g ls st h k s
theorem r53_24 (σ : Nat → Value) (g : aG) (ls st : List Value) (h : aH) (k s : Nat) : Rn (aLk T53 σ) g 24 ls st h k s = (i_op (o_int 1) 25) g (Rn (aLk T53 σ) g) ls st h k s := Rn.go mo53 rfl g ls st h k s
theorem r53_25 (σ : Nat → Value) (g : aG) (ls st : List Value) (h : aH) (k s : Nat) : Rn (aLk T53 σ) g 25 ls st h k s = (i_op o_iadd 26) g (Rn (aLk T53 σ) g) ls st h k s := Rn.go mo53 rfl g ls st h k s
theorem r53_26 (σ : Nat → Value) (g : aG) (ls st : List Value) (h : aH) (k s : Nat) : Rn (aLk T53 σ) g 26 ls st h k s = (i_aload 1 27) g (Rn (aLk T53 σ) g) ls st h k s := Rn.go mo53 rfl g ls st h k s
theorem r53_27 (σ : Nat → Value) (g : aG) (ls st : List Value) (h : aH) (k s : Nat) : Rn (aLk T53 σ) g 27 ls st h k s = (i_iload 2 28) g (Rn (aLk T53 σ) g) ls st h k s := Rn.go mo53 rfl g ls st h k s
theorem r53_28 (σ : Nat → Value) (g : aG) (ls st : List Value) (h : aH) (k s : Nat) : Rn (aLk T53 σ) g 28 ls st h k s = (i_iload 3 29) g (Rn (aLk T53 σ) g) ls st h k s := Rn.go mo53 rfl g ls st h k s
theorem r53_29 (σ : Nat → Value) (g : aG) (ls st : List Value) (h : aH) (k s : Nat) : Rn (aLk T53 σ) g 29 ls st h k s = (i_iload 2 30) g (Rn (aLk T53 σ) g) ls st h k s := Rn.go mo53 rfl g ls st h k s
theorem r53_30 (σ : Nat → Value) (g : aG) (ls st : List Value) (h : aH) (k s : Nat) : Rn (aLk T53 σ) g 30 ls st h k s = (i_op o_isub 31) g (Rn (aLk T53 σ) g) ls st h k s := Rn.go mo53 rfl g ls st h k s
theorem r53_31 (σ : Nat → Value) (g : aG) (ls st : List Value) (h : aH) (k s : Nat) : Rn (aLk T53 σ) g 31 ls st h k s = (i_acopy 34) g (Rn (aLk T53 σ) g) ls st h k s := Rn.go mo53 rfl g ls st h k s
theorem r53_34 (σ : Nat → Value) (g : aG) (ls st : List Value) (h : aH) (k s : Nat) : Rn (aLk T53 σ) g 34 ls st h k s = (i_aload 1 35) g (Rn (aLk T53 σ) g) ls st h k s := Rn.go mo53 rfl g ls st h k s
theorem r53_35 (σ : Nat → Value) (g : aG) (ls st : List Value) (h : aH) (k s : Nat) : Rn (aLk T53 σ) g 35 ls st h k s = (i_aload 0 36) g (Rn (aLk T53 σ) g) ls st h k s := Rn.go mo53 rfl g ls st h k s
theorem r53_36 (σ : Nat → Value) (g : aG) (ls st : List Value) (h : aH) (k s : Nat) : Rn (aLk T53 σ) g 36 ls st h k s = (i_iload 3 37) g (Rn (aLk T53 σ) g) ls st h k s := Rn.go mo53 rfl g ls st h k s
theorem r53_37 (σ : Nat → Value) (g : aG) (ls st : List Value) (h : aH) (k s : Nat) : Rn (aLk T53 σ) g 37 ls st h k s = (i_op o_dup_x1 38) g (Rn (aLk T53 σ) g) ls st h k s := Rn.go mo53 rfl g ls st h k s
theorem r53_38 (σ : Nat → Value) (g : aG) (ls st : List Value) (h : aH) (k s : Nat) : Rn (aLk T53 σ) g 38 ls st h k s = (i_putf 0 2 .int 41) g (Rn (aLk T53 σ) g) ls st h k s := Rn.go mo53 rfl g ls st h k s
theorem r53_41 (σ : Nat → Value) (g : aG) (ls st : List Value) (h : aH) (k s : Nat) : Rn (aLk T53 σ) g 41 ls st h k s = (i_op o_null 42) g (Rn (aLk T53 σ) g) ls st h k s := Rn.go mo53 rfl g ls st h k s
theorem r53_42 (σ : Nat → Value) (g : aG) (ls st : List Value) (h : aH) (k s : Nat) : Rn (aLk T53 σ) g 42 ls st h k s = (i_aast 43) g (Rn (aLk T53 σ) g) ls st h k s := Rn.go mo53 rfl g ls st h k s
theorem r53_43 (σ : Nat → Value) (g : aG) (ls st : List Value) (h : aH) (k s : Nat) : Rn (aLk T53 σ) g 43 ls st h k s = (i_ret) g (Rn (aLk T53 σ) g) ls st h k s := Rn.go mo53 rfl g ls st h k s
theorem r54_0 (σ : Nat → Value) (g : aG) (ls st : List Value) (h : aH) (k s : Nat) : Rn (aLk T54 σ) g 0 ls st h k s = (i_iload 1 1) g (Rn (aLk T54 σ) g) ls st h k s := Rn.go mo54 rfl g ls st h k s
theorem r54_1 (σ : Nat → Value) (g : aG) (ls st : List Value) (h : aH) (k s : Nat) : Rn (aLk T54 σ) g 1 ls st h k s = (i_aload 0 2) g (Rn (aLk T54 σ) g) ls st h k s := Rn.go mo54 rfl g ls st h k s
theorem r54_2 (σ : Nat → Value) (g : aG) (ls st : List Value) (h : aH) (k s : Nat) : Rn (aLk T54 σ) g 2 ls st h k s = (i_getf 0 2 5) g (Rn (aLk T54 σ) g) ls st h k s := Rn.go mo54 rfl g ls st h k s
theorem r54_5 (σ : Nat → Value) (g : aG) (ls st : List Value) (h : aH) (k s : Nat) : Rn (aLk T54 σ) g 5 ls st h k s = (i_callS 86 2 [] 8) g (Rn (aLk T54 σ) g) ls st h k s := Rn.go mo54 rfl g ls st h k s
theorem r54_8 (σ : Nat → Value) (g : aG) (ls st : List Value) (h : aH) (k s : Nat) : Rn (aLk T54 σ) g 8 ls st h k s = (i_op o_pop 9) g (Rn (aLk T54 σ) g) ls st h k s := Rn.go mo54 rfl g ls st h k s
theorem r54_9 (σ : Nat → Value) (g : aG) (ls st : List Value) (h : aH) (k s : Nat) : Rn (aLk T54 σ) g 9 ls st h k s = (i_aload 0 10) g (Rn (aLk T54 σ) g) ls st h k s := Rn.go mo54 rfl g ls st h k s
theorem r54_10 (σ : Nat → Value) (g : aG) (ls st : List Value) (h : aH) (k s : Nat) : Rn (aLk T54 σ) g 10 ls st h k s = (i_iload 1 11) g (Rn (aLk T54 σ) g) ls st h k s := Rn.go mo54 rfl g ls st h k s
theorem r54_11 (σ : Nat → Value) (g : aG) (ls st : List Value) (h : aH) (k s : Nat) : Rn (aLk T54 σ) g 11 ls st h k s = (i_callV [(0, 52)] 1 [] 14) g (Rn (aLk T54 σ) g) ls st h k s := Rn.go mo54 rfl g ls st h k s
theorem r54_14 (σ : Nat → Value) (g : aG) (ls st : List Value) (h : aH) (k s : Nat) : Rn (aLk T54 σ) g 14 ls st h k s = (i_aret) g (Rn (aLk T54 σ) g) ls st h k s := Rn.go mo54 rfl g ls st h k s
theorem r55_0 (σ : Nat → Value) (g : aG) (ls st : List Value) (h : aH) (k s : Nat) : Rn (aLk T55 σ) g 0 ls st h k s = (i_aload 0 1) g (Rn (aLk T55 σ) g) ls st h k s := Rn.go mo55 rfl g ls st h k s
theorem r55_1 (σ : Nat → Value) (g : aG) (ls st : List Value) (h : aH) (k s : Nat) : Rn (aLk T55 σ) g 1 ls st h k s = (i_aload 0 2) g (Rn (aLk T55 σ) g) ls st h k s := Rn.go mo55 rfl g ls st h k s
theorem r55_2 (σ : Nat → Value) (g : aG) (ls st : List Value) (h : aH) (k s : Nat) : Rn (aLk T55 σ) g 2 ls st h k s = (i_getf 0 2 5) g (Rn (aLk T55 σ) g) ls st h k s := Rn.go mo55 rfl g ls st h k s
theorem r55_5 (σ : Nat → Value) (g : aG) (ls st : List Value) (h : aH) (k s : Nat) : Rn (aLk T55 σ) g 5 ls st h k s = (i_op (o_int 1) 6) g (Rn (aLk T55 σ) g) ls st h k s := Rn.go mo55 rfl g ls st h k s
theorem r55_6 (σ : Nat → Value) (g : aG) (ls st : List Value) (h : aH) (k s : Nat) : Rn (aLk T55 σ) g 6 ls st h k s = (i_op o_iadd 7) g (Rn (aLk T55 σ) g) ls st h k s := Rn.go mo55 rfl g ls st h k s
theorem r55_7 (σ : Nat → Value) (g : aG) (ls st : List Value) (h : aH) (k s : Nat) : Rn (aLk T55 σ) g 7 ls st h k s = (i_callV [(0, 56)] 1 [] 10) g (Rn (aLk T55 σ) g) ls st h k s := Rn.go mo55 rfl g ls st h k s
theorem r55_10 (σ : Nat → Value) (g : aG) (ls st : List Value) (h : aH) (k s : Nat) : Rn (aLk T55 σ) g 10 ls st h k s = (i_aret) g (Rn (aLk T55 σ) g) ls st h k s := Rn.go mo55 rfl g ls st h k s
theorem r56_0 (σ : Nat → Value) (g : aG) (ls st : List Value) (h : aH) (k s : Nat) : Rn (aLk T56 σ) g 0 ls st h k s = (i_aload 0 1) g (Rn (aLk T56 σ) g) ls st h k s := Rn.go mo56 rfl g ls st h k s
theorem r56_1 (σ : Nat → Value) (g : aG) (ls st : List Value) (h : aH) (k s : Nat) : Rn (aLk T56 σ) g 1 ls st h k s = (i_getf 0 1 4) g (Rn (aLk T56 σ) g) ls st h k s := Rn.go mo56 rfl g ls st h k s
theorem r56_4 (σ : Nat → Value) (g : aG) (ls st : List Value) (h : aH) (k s : Nat) : Rn (aLk T56 σ) g 4 ls st h k s = (i_alen 5) g (Rn (aLk T56 σ) g) ls st h k s := Rn.go mo56 rfl g ls st h k s
theorem r56_5 (σ : Nat → Value) (g : aG) (ls st : List Value) (h : aH) (k s : Nat) : Rn (aLk T56 σ) g 5 ls st h k s = (i_istore 2 6) g (Rn (aLk T56 σ) g) ls st h k s := Rn.go mo56 rfl g ls st h k s
theorem r56_6 (σ : Nat → Value) (g : aG) (ls st : List Value) (h : aH) (k s : Nat) : Rn (aLk T56 σ) g 6 ls st h k s = (i_iload 2 7) g (Rn (aLk T56 σ) g) ls st h k s := Rn.go mo56 rfl g ls st h k s
theorem r56_7 (σ : Nat → Value) (g : aG) (ls st : List Value) (h : aH) (k s : Nat) : Rn (aLk T56 σ) g 7 ls st h k s = (i_ifgt 20 10) g (Rn (aLk T56 σ) g) ls st h k s := Rn.go mo56 rfl g ls st h k s
theorem r56_10 (σ : Nat → Value) (g : aG) (ls st : List Value) (h : aH) (k s : Nat) : Rn (aLk T56 σ) g 10 ls st h k s = (i_aload 0 11) g (Rn (aLk T56 σ) g) ls st h k s := Rn.go mo56 rfl g ls st h k s
theorem r56_11 (σ : Nat → Value) (g : aG) (ls st : List Value) (h : aH) (k s : Nat) : Rn (aLk T56 σ) g 11 ls st h k s = (i_getf 0 1 14) g (Rn (aLk T56 σ) g) ls st h k s := Rn.go mo56 rfl g ls st h k s
theorem r56_14 (σ : Nat → Value) (g : aG) (ls st : List Value) (h : aH) (k s : Nat) : Rn (aLk T56 σ) g 14 ls st h k s = (i_push (σ 0) 17) g (Rn (aLk T56 σ) g) ls st h k s := Rn.go mo56 rfl g ls st h k s
theorem r56_17 (σ : Nat → Value) (g : aG) (ls st : List Value) (h : aH) (k s : Nat) : Rn (aLk T56 σ) g 17 ls st h k s = (i_aeq 45 20) g (Rn (aLk T56 σ) g) ls st h k s := Rn.go mo56 rfl g ls st h k s
theorem r56_20 (σ : Nat → Value) (g : aG) (ls st : List Value) (h : aH) (k s : Nat) : Rn (aLk T56 σ) g 20 ls st h k s = (i_iload 2 21) g (Rn (aLk T56 σ) g) ls st h k s := Rn.go mo56 rfl g ls st h k s
theorem r56_21 (σ : Nat → Value) (g : aG) (ls st : List Value) (h : aH) (k s : Nat) : Rn (aLk T56 σ) g 21 ls st h k s = (i_iload 1 22) g (Rn (aLk T56 σ) g) ls st h k s := Rn.go mo56 rfl g ls st h k s
theorem r56_22 (σ : Nat → Value) (g : aG) (ls st : List Value) (h : aH) (k s : Nat) : Rn (aLk T56 σ) g 22 ls st h k s = (i_iload 2 23) g (Rn (aLk T56 σ) g) ls st h k s := Rn.go mo56 rfl g ls st h k s
theorem r56_23 (σ : Nat → Value) (g : aG) (ls st : List Value) (h : aH) (k s : Nat) : Rn (aLk T56 σ) g 23 ls st h k s = (i_op o_isub 24) g (Rn (aLk T56 σ) g) ls st h k s := Rn.go mo56 rfl g ls st h k s
theorem r56_24 (σ : Nat → Value) (g : aG) (ls st : List Value) (h : aH) (k s : Nat) : Rn (aLk T56 σ) g 24 ls st h k s = (i_iload 2 25) g (Rn (aLk T56 σ) g) ls st h k s := Rn.go mo56 rfl g ls st h k s
theorem r56_25 (σ : Nat → Value) (g : aG) (ls st : List Value) (h : aH) (k s : Nat) : Rn (aLk T56 σ) g 25 ls st h k s = (i_op (o_int 1) 26) g (Rn (aLk T56 σ) g) ls st h k s := Rn.go mo56 rfl g ls st h k s
theorem r56_26 (σ : Nat → Value) (g : aG) (ls st : List Value) (h : aH) (k s : Nat) : Rn (aLk T56 σ) g 26 ls st h k s = (i_op o_ishr 27) g (Rn (aLk T56 σ) g) ls st h k s := Rn.go mo56 rfl g ls st h k s
theorem r56_27 (σ : Nat → Value) (g : aG) (ls st : List Value) (h : aH) (k s : Nat) : Rn (aLk T56 σ) g 27 ls st h k s = (i_callS 120 3 [] 30) g (Rn (aLk T56 σ) g) ls st h k s := Rn.go mo56 rfl g ls st h k s
theorem r56_30 (σ : Nat → Value) (g : aG) (ls st : List Value) (h : aH) (k s : Nat) : Rn (aLk T56 σ) g 30 ls st h k s = (i_istore 3 31) g (Rn (aLk T56 σ) g) ls st h k s := Rn.go mo56 rfl g ls st h k s
theorem r56_31 (σ : Nat → Value) (g : aG) (ls st : List Value) (h : aH) (k s : Nat) : Rn (aLk T56 σ) g 31 ls st h k s = (i_aload 0 32) g (Rn (aLk T56 σ) g) ls st h k s := Rn.go mo56 rfl g ls st h k s
theorem r56_32 (σ : Nat → Value) (g : aG) (ls st : List Value) (h : aH) (k s : Nat) : Rn (aLk T56 σ) g 32 ls st h k s = (i_aload 0 33) g (Rn (aLk T56 σ) g) ls st h k s := Rn.go mo56 rfl g ls st h k s
theorem r56_33 (σ : Nat → Value) (g : aG) (ls st : List Value) (h : aH) (k s : Nat) : Rn (aLk T56 σ) g 33 ls st h k s = (i_getf 0 1 36) g (Rn (aLk T56 σ) g) ls st h k s := Rn.go mo56 rfl g ls st h k s
theorem r56_36 (σ : Nat → Value) (g : aG) (ls st : List Value) (h : aH) (k s : Nat) : Rn (aLk T56 σ) g 36 ls st h k s = (i_iload 3 37) g (Rn (aLk T56 σ) g) ls st h k s := Rn.go mo56 rfl g ls st h k s
theorem r56_37 (σ : Nat → Value) (g : aG) (ls st : List Value) (h : aH) (k s : Nat) : Rn (aLk T56 σ) g 37 ls st h k s = (i_callS 70 2 [] 40) g (Rn (aLk T56 σ) g) ls st h k s := Rn.go mo56 rfl g ls st h k s
theorem r56_40 (σ : Nat → Value) (g : aG) (ls st : List Value) (h : aH) (k s : Nat) : Rn (aLk T56 σ) g 40 ls st h k s = (i_op o_dup_x1 41) g (Rn (aLk T56 σ) g) ls st h k s := Rn.go mo56 rfl g ls st h k s
theorem r56_41 (σ : Nat → Value) (g : aG) (ls st : List Value) (h : aH) (k s : Nat) : Rn (aLk T56 σ) g 41 ls st h k s = (i_putf 0 1 (.array (.object "java/lang/Object")) 44) g (Rn (aLk T56 σ) g) ls st h k s := Rn.go mo56 rfl g ls st h k s
theorem r56_44 (σ : Nat → Value) (g : aG) (ls st : List Value) (h : aH) (k s : Nat) : Rn (aLk T56 σ) g 44 ls st h k s = (i_aret) g (Rn (aLk T56 σ) g) ls st h k s := Rn.go mo56 rfl g ls st h k s
theorem r56_45 (σ : Nat → Value) (g : aG) (ls st : List Value) (h : aH) (k s : Nat) : Rn (aLk T56 σ) g 45 ls st h k s = (i_aload 0 46) g (Rn (aLk T56 σ) g) ls st h k s := Rn.go mo56 rfl g ls st h k s
theorem r56_46 (σ : Nat → Value) (g : aG) (ls st : List Value) (h : aH) (k s : Nat) : Rn (aLk T56 σ) g 46 ls st h k s = (i_op (o_int 10) 48) g (Rn (aLk T56 σ) g) ls st h k s := Rn.go mo56 rfl g ls st h k s
theorem r56_48 (σ : Nat → Value) (g : aG) (ls st : List Value) (h : aH) (k s : Nat) : Rn (aLk T56 σ) g 48 ls st h k s = (i_iload 1 49) g (Rn (aLk T56 σ) g) ls st h k s := Rn.go mo56 rfl g ls st h k s
theorem r56_49 (σ : Nat → Value) (g : aG) (ls st : List Value) (h : aH) (k s : Nat) : Rn (aLk T56 σ) g 49 ls st h k s = (i_mmax 52) g (Rn (aLk T56 σ) g) ls st h k s := Rn.go mo56 rfl g ls st h k s
theorem r56_52 (σ : Nat → Value) (g : aG) (ls st : List Value) (h : aH) (k s : Nat) : Rn (aLk T56 σ) g 52 ls st h k s = (i_newa 4 (.inr (.inr (.inr (.inr fun _ => none)))) 4 55) g (Rn (aLk T56 σ) g) ls st h k s := Rn.go mo56 rfl g ls st h k s
theorem r56_55 (σ : Nat → Value) (g : aG) (ls st : List Value) (h : aH) (k s : Nat) : Rn (aLk T56 σ) g 55 ls st h k s = (i_op o_dup_x1 56) g (Rn (aLk T56 σ) g) ls st h k s := Rn.go mo56 rfl g ls st h k s
theorem r56_56 (σ : Nat → Value) (g : aG) (ls st : List Value) (h : aH) (k s : Nat) : Rn (aLk T56 σ) g 56 ls st h k s = (i_putf 0 1 (.array (.object "java/lang/Object")) 59) g (Rn (aLk T56 σ) g) ls st h k s := Rn.go mo56 rfl g ls st h k s
theorem r56_59 (σ : Nat → Value) (g : aG) (ls st : List Value) (h : aH) (k s : Nat) : Rn (aLk T56 σ) g 59 ls st h k s = (i_aret) g (Rn (aLk T56 σ) g) ls st h k s := Rn.go mo56 rfl g ls st h k s
theorem r57_0 (σ : Nat → Value) (g : aG) (ls st : List Value) (h : aH) (k s : Nat) : Rn (aLk T57 σ) g 0 ls st h k s = (i_aload 0 1) g (Rn (aLk T57 σ) g) ls st h k s := Rn.go mo57 rfl g ls st h k s
theorem r57_1 (σ : Nat → Value) (g : aG) (ls st : List Value) (h : aH) (k s : Nat) : Rn (aLk T57 σ) g 1 ls st h k s = (i_aload 1 2) g (Rn (aLk T57 σ) g) ls st h k s := Rn.go mo57 rfl g ls st h k s
theorem r57_2 (σ : Nat → Value) (g : aG) (ls st : List Value) (h : aH) (k s : Nat) : Rn (aLk T57 σ) g 2 ls st h k s = (i_op (o_int 0) 3) g (Rn (aLk T57 σ) g) ls st h k s := Rn.go mo57 rfl g ls st h k s
theorem r57_3 (σ : Nat → Value) (g : aG) (ls st : List Value) (h : aH) (k s : Nat) : Rn (aLk T57 σ) g 3 ls st h k s = (i_aload 0 4) g (Rn (aLk T57 σ) g) ls st h k s := Rn.go mo57 rfl g ls st h k s
theorem r57_4 (σ : Nat → Value) (g : aG) (ls st : List Value) (h : aH) (k s : Nat) : Rn (aLk T57 σ) g 4 ls st h k s = (i_getf 0 2 7) g (Rn (aLk T57 σ) g) ls st h k s := Rn.go mo57 rfl g ls st h k s
theorem r57_7 (σ : Nat → Value) (g : aG) (ls st : List Value) (h : aH) (k s : Nat) : Rn (aLk T57 σ) g 7 ls st h k s = (i_callV [(0, 58)] 3 [] 10) g (Rn (aLk T57 σ) g) ls st h k s := Rn.go mo57 rfl g ls st h k s
theorem r57_10 (σ : Nat → Value) (g : aG) (ls st : List Value) (h : aH) (k s : Nat) : Rn (aLk T57 σ) g 10 ls st h k s = (i_iret .int) g (Rn (aLk T57 σ) g) ls st h k s := Rn.go mo57 rfl g ls st h k s
theorem r58_0 (σ : Nat → Value) (g : aG) (ls st : List Value) (h : aH) (k s : Nat) : Rn (aLk T58 σ) g 0 ls st h k s = (i_aload 0 1) g (Rn (aLk T58 σ) g) ls st h k s := Rn.go mo58 rfl g ls st h k s
theorem r58_1 (σ : Nat → Value) (g : aG) (ls st : List Value) (h : aH) (k s : Nat) : Rn (aLk T58 σ) g 1 ls st h k s = (i_getf 0 1 4) g (Rn (aLk T58 σ) g) ls st h k s := Rn.go mo58 rfl g ls st h k s
theorem r58_4 (σ : Nat → Value) (g : aG) (ls st : List Value) (h : aH) (k s : Nat) : Rn (aLk T58 σ) g 4 ls st h k s = (i_astore 4 6) g (Rn (aLk T58 σ) g) ls st h k s := Rn.go mo58 rfl g ls st h k s
theorem r58_6 (σ : Nat → Value) (g : aG) (ls st : List Value) (h : aH) (k s : Nat) : Rn (aLk T58 σ) g 6 ls st h k s = (i_aload 1 7) g (Rn (aLk T58 σ) g) ls st h k s := Rn.go mo58 rfl g ls st h k s
theorem r58_7 (σ : Nat → Value) (g : aG) (ls st : List Value) (h : aH) (k s : Nat) : Rn (aLk T58 σ) g 7 ls st h k s = (i_nnull 39 10) g (Rn (aLk T58 σ) g) ls st h k s := Rn.go mo58 rfl g ls st h k s
theorem r58_10 (σ : Nat → Value) (g : aG) (ls st : List Value) (h : aH) (k s : Nat) : Rn (aLk T58 σ) g 10 ls st h k s = (i_iload 2 11) g (Rn (aLk T58 σ) g) ls st h k s := Rn.go mo58 rfl g ls st h k s
theorem r58_11 (σ : Nat → Value) (g : aG) (ls st : List Value) (h : aH) (k s : Nat) : Rn (aLk T58 σ) g 11 ls st h k s = (i_istore 5 13) g (Rn (aLk T58 σ) g) ls st h k s := Rn.go mo58 rfl g ls st h k s
theorem r58_13 (σ : Nat → Value) (g : aG) (ls st : List Value) (h : aH) (k s : Nat) : Rn (aLk T58 σ) g 13 ls st h k s = (i_iload 5 15) g (Rn (aLk T58 σ) g) ls st h k s := Rn.go mo58 rfl g ls st h k s
theorem r58_15 (σ : Nat → Value) (g : aG) (ls st : List Value) (h : aH) (k s : Nat) : Rn (aLk T58 σ) g 15 ls st h k s = (i_iload 3 16) g (Rn (aLk T58 σ) g) ls st h k s := Rn.go mo58 rfl g ls st h k s
theorem r58_16 (σ : Nat → Value) (g : aG) (ls st : List Value) (h : aH) (k s : Nat) : Rn (aLk T58 σ) g 16 ls st h k s = (i_cge 36 19) g (Rn (aLk T58 σ) g) ls st h k s := Rn.go mo58 rfl g ls st h k s
theorem r58_19 (σ : Nat → Value) (g : aG) (ls st : List Value) (h : aH) (k s : Nat) : Rn (aLk T58 σ) g 19 ls st h k s = (i_aload 4 21) g (Rn (aLk T58 σ) g) ls st h k s := Rn.go mo58 rfl g ls st h k s
theorem r58_21 (σ : Nat → Value) (g : aG) (ls st : List Value) (h : aH) (k s : Nat) : Rn (aLk T58 σ) g 21 ls st h k s = (i_iload 5 23) g (Rn (aLk T58 σ) g) ls st h k s := Rn.go mo58 rfl g ls st h k s
theorem r58_23 (σ : Nat → Value) (g : aG) (ls st : List Value) (h : aH) (k s : Nat) : Rn (aLk T58 σ) g 23 ls st h k s = (i_aald [4, 5, 6, 7, 1004, 1008, 1009] 24) g (Rn (aLk T58 σ) g) ls st h k s := Rn.go mo58 rfl g ls st h k s
theorem r58_24 (σ : Nat → Value) (g : aG) (ls st : List Value) (h : aH) (k s : Nat) : Rn (aLk T58 σ) g 24 ls st h k s = (i_nnull 30 27) g (Rn (aLk T58 σ) g) ls st h k s := Rn.go mo58 rfl g ls st h k s
theorem r58_27 (σ : Nat → Value) (g : aG) (ls st : List Value) (h : aH) (k s : Nat) : Rn (aLk T58 σ) g 27 ls st h k s = (i_iload 5 29) g (Rn (aLk T58 σ) g) ls st h k s := Rn.go mo58 rfl g ls st h k s
theorem r58_29 (σ : Nat → Value) (g : aG) (ls st : List Value) (h : aH) (k s : Nat) : Rn (aLk T58 σ) g 29 ls st h k s = (i_iret .int) g (Rn (aLk T58 σ) g) ls st h k s := Rn.go mo58 rfl g ls st h k s
theorem r58_30 (σ : Nat → Value) (g : aG) (ls st : List Value) (h : aH) (k s : Nat) : Rn (aLk T58 σ) g 30 ls st h k s = (i_iinc 5 1 33) g (Rn (aLk T58 σ) g) ls st h k s := Rn.go mo58 rfl g ls st h k s
theorem r58_33 (σ : Nat → Value) (g : aG) (ls st : List Value) (h : aH) (k s : Nat) : Rn (aLk T58 σ) g 33 ls st h k s = (i_goto 13) g (Rn (aLk T58 σ) g) ls st h k s := Rn.go mo58 rfl g ls st h k s
theorem r58_36 (σ : Nat → Value) (g : aG) (ls st : List Value) (h : aH) (k s : Nat) : Rn (aLk T58 σ) g 36 ls st h k s = (i_goto 69) g (Rn (aLk T58 σ) g) ls st h k s := Rn.go mo58 rfl g ls st h k s
theorem r58_39 (σ : Nat → Value) (g : aG) (ls st : List Value) (h : aH) (k s : Nat) : Rn (aLk T58 σ) g 39 ls st h k s = (i_iload 2 40) g (Rn (aLk T58 σ) g) ls st h k s := Rn.go mo58 rfl g ls st h k s
theorem r58_40 (σ : Nat → Value) (g : aG) (ls st : List Value) (h : aH) (k s : Nat) : Rn (aLk T58 σ) g 40 ls st h k s = (i_istore 5 42) g (Rn (aLk T58 σ) g) ls st h k s := Rn.go mo58 rfl g ls st h k s
theorem r58_42 (σ : Nat → Value) (g : aG) (ls st : List Value) (h : aH) (k s : Nat) : Rn (aLk T58 σ) g 42 ls st h k s = (i_iload 5 44) g (Rn (aLk T58 σ) g) ls st h k s := Rn.go mo58 rfl g ls st h k s
theorem r58_44 (σ : Nat → Value) (g : aG) (ls st : List Value) (h : aH) (k s : Nat) : Rn (aLk T58 σ) g 44 ls st h k s = (i_iload 3 45) g (Rn (aLk T58 σ) g) ls st h k s := Rn.go mo58 rfl g ls st h k s
theorem r58_45 (σ : Nat → Value) (g : aG) (ls st : List Value) (h : aH) (k s : Nat) : Rn (aLk T58 σ) g 45 ls st h k s = (i_cge 69 48) g (Rn (aLk T58 σ) g) ls st h k s := Rn.go mo58 rfl g ls st h k s
theorem r58_48 (σ : Nat → Value) (g : aG) (ls st : List Value) (h : aH) (k s : Nat) : Rn (aLk T58 σ) g 48 ls st h k s = (i_aload 1 49) g (Rn (aLk T58 σ) g) ls st h k s := Rn.go mo58 rfl g ls st h k s
theorem r58_49 (σ : Nat → Value) (g : aG) (ls st : List Value) (h : aH) (k s : Nat) : Rn (aLk T58 σ) g 49 ls st h k s = (i_aload 4 51) g (Rn (aLk T58 σ) g) ls st h k s := Rn.go mo58 rfl g ls st h k s
theorem r58_51 (σ : Nat → Value) (g : aG) (ls st : List Value) (h : aH) (k s : Nat) : Rn (aLk T58 σ) g 51 ls st h k s = (i_iload 5 53) g (Rn (aLk T58 σ) g) ls st h k s := Rn.go mo58 rfl g ls st h k s
theorem r58_53 (σ : Nat → Value) (g : aG) (ls st : List Value) (h : aH) (k s : Nat) : Rn (aLk T58 σ) g 53 ls st h k s = (i_aald [4, 5, 6, 7, 1004, 1008, 1009] 54) g (Rn (aLk T58 σ) g) ls st h k s := Rn.go mo58 rfl g ls st h k s
theorem r58_54 (σ : Nat → Value) (g : aG) (ls st : List Value) (h : aH) (k s : Nat) : Rn (aLk T58 σ) g 54 ls st h k s = (i_callV [(3, 4), (1003, 4)] 1 [] 57) g (Rn (aLk T58 σ) g) ls st h k s := Rn.go mo58 rfl g ls st h k s
theorem r58_57 (σ : Nat → Value) (g : aG) (ls st : List Value) (h : aH) (k s : Nat) : Rn (aLk T58 σ) g 57 ls st h k s = (i_ifeq 63 60) g (Rn (aLk T58 σ) g) ls st h k s := Rn.go mo58 rfl g ls st h k s
theorem r58_60 (σ : Nat → Value) (g : aG) (ls st : List Value) (h : aH) (k s : Nat) : Rn (aLk T58 σ) g 60 ls st h k s = (i_iload 5 62) g (Rn (aLk T58 σ) g) ls st h k s := Rn.go mo58 rfl g ls st h k s
theorem r58_62 (σ : Nat → Value) (g : aG) (ls st : List Value) (h : aH) (k s : Nat) : Rn (aLk T58 σ) g 62 ls st h k s = (i_iret .int) g (Rn (aLk T58 σ) g) ls st h k s := Rn.go mo58 rfl g ls st h k s
theorem r58_63 (σ : Nat → Value) (g : aG) (ls st : List Value) (h : aH) (k s : Nat) : Rn (aLk T58 σ) g 63 ls st h k s = (i_iinc 5 1 66) g (Rn (aLk T58 σ) g) ls st h k s := Rn.go mo58 rfl g ls st h k s
theorem r58_66 (σ : Nat → Value) (g : aG) (ls st : List Value) (h : aH) (k s : Nat) : Rn (aLk T58 σ) g 66 ls st h k s = (i_goto 42) g (Rn (aLk T58 σ) g) ls st h k s := Rn.go mo58 rfl g ls st h k s
theorem r58_69 (σ : Nat → Value) (g : aG) (ls st : List Value) (h : aH) (k s : Nat) : Rn (aLk T58 σ) g 69 ls st h k s = (i_op (o_int (-1)) 70) g (Rn (aLk T58 σ) g) ls st h k s := Rn.go mo58 rfl g ls st h k s
theorem r58_70 (σ : Nat → Value) (g : aG) (ls st : List Value) (h : aH) (k s : Nat) : Rn (aLk T58 σ) g 70 ls st h k s = (i_iret .int) g (Rn (aLk T58 σ) g) ls st h k s := Rn.go mo58 rfl g ls st h k s
theorem r59_0 (σ : Nat → Value) (g : aG) (ls st : List Value) (h : aH) (k s : Nat) : Rn (aLk T59 σ) g 0 ls st h k s = (i_aload 0 1) g (Rn (aLk T59 σ) g) ls st h k s := Rn.go mo59 rfl g ls st h k s
theorem r59_1 (σ : Nat → Value) (g : aG) (ls st : List Value) (h : aH) (k s : Nat) : Rn (aLk T59 σ) g 1 ls st h k s = (i_getf 0 2 4) g (Rn (aLk T59 σ) g) ls st h k s := Rn.go mo59 rfl g ls st h k s
theorem r59_4 (σ : Nat → Value) (g : aG) (ls st : List Value) (h : aH) (k s : Nat) : Rn (aLk T59 σ) g 4 ls st h k s = (i_ifne 11 7) g (Rn (aLk T59 σ) g) ls st h k s := Rn.go mo59 rfl g ls st h k s
theorem r59_7 (σ : Nat → Value) (g : aG) (ls st : List Value) (h : aH) (k s : Nat) : Rn (aLk T59 σ) g 7 ls st h k s = (i_op (o_int 1) 8) g (Rn (aLk T59 σ) g) ls st h k s := Rn.go mo59 rfl g ls st h k s
theorem r59_8 (σ : Nat → Value) (g : aG) (ls st : List Value) (h : aH) (k s : Nat) : Rn (aLk T59 σ) g 8 ls st h k s = (i_goto 12) g (Rn (aLk T59 σ) g) ls st h k s := Rn.go mo59 rfl g ls st h k s
theorem r59_11 (σ : Nat → Value) (g : aG) (ls st : List Value) (h : aH) (k s : Nat) : Rn (aLk T59 σ) g 11 ls st h k s = (i_op (o_int 0) 12) g (Rn (aLk T59 σ) g) ls st h k s := Rn.go mo59 rfl g ls st h k s
theorem r59_12 (σ : Nat → Value) (g : aG) (ls st : List Value) (h : aH) (k s : Nat) : Rn (aLk T59 σ) g 12 ls st h k s = (i_iret .boolean) g (Rn (aLk T59 σ) g) ls st h k s := Rn.go mo59 rfl g ls st h k s
theorem r60_0 (σ : Nat → Value) (g : aG) (ls st : List Value) (h : aH) (k s : Nat) : Rn (aLk T60 σ) g 0 ls st h k s = (i_new 1 4 [.int 0, .int 0, .int 0, .null] 3) g (Rn (aLk T60 σ) g) ls st h k s := Rn.go mo60 rfl g ls st h k s
theorem r60_3 (σ : Nat → Value) (g : aG) (ls st : List Value) (h : aH) (k s : Nat) : Rn (aLk T60 σ) g 3 ls st h k s = (i_op o_dup 4) g (Rn (aLk T60 σ) g) ls st h k s := Rn.go mo60 rfl g ls st h k s
theorem r60_4 (σ : Nat → Value) (g : aG) (ls st : List Value) (h : aH) (k s : Nat) : Rn (aLk T60 σ) g 4 ls st h k s = (i_aload 0 5) g (Rn (aLk T60 σ) g) ls st h k s := Rn.go mo60 rfl g ls st h k s
theorem r60_5 (σ : Nat → Value) (g : aG) (ls st : List Value) (h : aH) (k s : Nat) : Rn (aLk T60 σ) g 5 ls st h k s = (i_callI 65 1 [] 8) g (Rn (aLk T60 σ) g) ls st h k s := Rn.go mo60 rfl g ls st h k s
theorem r60_8 (σ : Nat → Value) (g : aG) (ls st : List Value) (h : aH) (k s : Nat) : Rn (aLk T60 σ) g 8 ls st h k s = (i_aret) g (Rn (aLk T60 σ) g) ls st h k s := Rn.go mo60 rfl g ls st h k s
theorem r61_0 (σ : Nat → Value) (g : aG) (ls st : List Value) (h : aH) (k s : Nat) : Rn (aLk T61 σ) g 0 ls st h k s = (i_iload 1 1) g (Rn (aLk T61 σ) g) ls st h k s := Rn.go mo61 rfl g ls st h k s
theorem r61_1 (σ : Nat → Value) (g : aG) (ls st : List Value) (h : aH) (k s : Nat) : Rn (aLk T61 σ) g 1 ls st h k s = (i_aload 0 2) g (Rn (aLk T61 σ) g) ls st h k s := Rn.go mo61 rfl g ls st h k s
theorem r61_2 (σ : Nat → Value) (g : aG) (ls st : List Value) (h : aH) (k s : Nat) : Rn (aLk T61 σ) g 2 ls st h k s = (i_getf 0 2 5) g (Rn (aLk T61 σ) g) ls st h k s := Rn.go mo61 rfl g ls st h k s
theorem r61_5 (σ : Nat → Value) (g : aG) (ls st : List Value) (h : aH) (k s : Nat) : Rn (aLk T61 σ) g 5 ls st h k s = (i_cgt 12 8) g (Rn (aLk T61 σ) g) ls st h k s := Rn.go mo61 rfl g ls st h k s
theorem r61_8 (σ : Nat → Value) (g : aG) (ls st : List Value) (h : aH) (k s : Nat) : Rn (aLk T61 σ) g 8 ls st h k s = (i_iload 1 9) g (Rn (aLk T61 σ) g) ls st h k s := Rn.go mo61 rfl g ls st h k s
theorem r61_9 (σ : Nat → Value) (g : aG) (ls st : List Value) (h : aH) (k s : Nat) : Rn (aLk T61 σ) g 9 ls st h k s = (i_ifge 25 12) g (Rn (aLk T61 σ) g) ls st h k s := Rn.go mo61 rfl g ls st h k s
theorem r61_15 (σ : Nat → Value) (g : aG) (ls st : List Value) (h : aH) (k s : Nat) : Rn (aLk T61 σ) g 15 ls st h k s = (i_op o_dup 16) g (Rn (aLk T61 σ) g) ls st h k s := Rn.go mo61 rfl g ls st h k s
theorem r61_16 (σ : Nat → Value) (g : aG) (ls st : List Value) (h : aH) (k s : Nat) : Rn (aLk T61 σ) g 16 ls st h k s = (i_aload 0 17) g (Rn (aLk T61 σ) g) ls st h k s := Rn.go mo61 rfl g ls st h k s
theorem r61_17 (σ : Nat → Value) (g : aG) (ls st : List Value) (h : aH) (k s : Nat) : Rn (aLk T61 σ) g 17 ls st h k s = (i_iload 1 18) g (Rn (aLk T61 σ) g) ls st h k s := Rn.go mo61 rfl g ls st h k s
theorem r61_25 (σ : Nat → Value) (g : aG) (ls st : List Value) (h : aH) (k s : Nat) : Rn (aLk T61 σ) g 25 ls st h k s = (i_ret) g (Rn (aLk T61 σ) g) ls st h k s := Rn.go mo61 rfl g ls st h k s
theorem r62_0 (σ : Nat → Value) (g : aG) (ls st : List Value) (h : aH) (k s : Nat) : Rn (aLk T62 σ) g 0 ls st h k s = (i_iload 1 1) g (Rn (aLk T62 σ) g) ls st h k s := Rn.go mo62 rfl g ls st h k s
theorem r62_1 (σ : Nat → Value) (g : aG) (ls st : List Value) (h : aH) (k s : Nat) : Rn (aLk T62 σ) g 1 ls st h k s = (i_aload 0 2) g (Rn (aLk T62 σ) g) ls st h k s := Rn.go mo62 rfl g ls st h k s
theorem r62_2 (σ : Nat → Value) (g : aG) (ls st : List Value) (h : aH) (k s : Nat) : Rn (aLk T62 σ) g 2 ls st h k s = (i_getf 0 2 5) g (Rn (aLk T62 σ) g) ls st h k s := Rn.go mo62 rfl g ls st h k s
theorem r62_5 (σ : Nat → Value) (g : aG) (ls st : List Value) (h : aH) (k s : Nat) : Rn (aLk T62 σ) g 5 ls st h k s = (i_callS 86 2 [] 8) g (Rn (aLk T62 σ) g) ls st h k s := Rn.go mo62 rfl g ls st h k s
theorem r62_8 (σ : Nat → Value) (g : aG) (ls st : List Value) (h : aH) (k s : Nat) : Rn (aLk T62 σ) g 8 ls st h k s = (i_op o_pop 9) g (Rn (aLk T62 σ) g) ls st h k s := Rn.go mo62 rfl g ls st h k s
theorem r62_9 (σ : Nat → Value) (g : aG) (ls st : List Value) (h : aH) (k s : Nat) : Rn (aLk T62 σ) g 9 ls st h k s = (i_aload 0 10) g (Rn (aLk T62 σ) g) ls st h k s := Rn.go mo62 rfl g ls st h k s
theorem r62_10 (σ : Nat → Value) (g : aG) (ls st : List Value) (h : aH) (k s : Nat) : Rn (aLk T62 σ) g 10 ls st h k s = (i_getf 0 1 13) g (Rn (aLk T62 σ) g) ls st h k s := Rn.go mo62 rfl g ls st h k s
theorem r62_13 (σ : Nat → Value) (g : aG) (ls st : List Value) (h : aH) (k s : Nat) : Rn (aLk T62 σ) g 13 ls st h k s = (i_astore 2 14) g (Rn (aLk T62 σ) g) ls st h k s := Rn.go mo62 rfl g ls st h k s
theorem r62_14 (σ : Nat → Value) (g : aG) (ls st : List Value) (h : aH) (k s : Nat) : Rn (aLk T62 σ) g 14 ls st h k s = (i_aload 2 15) g (Rn (aLk T62 σ) g) ls st h k s := Rn.go mo62 rfl g ls st h k s
theorem r62_15 (σ : Nat → Value) (g : aG) (ls st : List Value) (h : aH) (k s : Nat) : Rn (aLk T62 σ) g 15 ls st h k s = (i_iload 1 16) g (Rn (aLk T62 σ) g) ls st h k s := Rn.go mo62 rfl g ls st h k s
theorem r62_16 (σ : Nat → Value) (g : aG) (ls st : List Value) (h : aH) (k s : Nat) : Rn (aLk T62 σ) g 16 ls st h k s = (i_aald [4, 5, 6, 7, 1004, 1008, 1009] 17) g (Rn (aLk T62 σ) g) ls st h k s := Rn.go mo62 rfl g ls st h k s
theorem r62_17 (σ : Nat → Value) (g : aG) (ls st : List Value) (h : aH) (k s : Nat) : Rn (aLk T62 σ) g 17 ls st h k s = (i_astore 3 18) g (Rn (aLk T62 σ) g) ls st h k s := Rn.go mo62 rfl g ls st h k s
theorem r62_18 (σ : Nat → Value) (g : aG) (ls st : List Value) (h : aH) (k s : Nat) : Rn (aLk T62 σ) g 18 ls st h k s = (i_aload 0 19) g (Rn (aLk T62 σ) g) ls st h k s := Rn.go mo62 rfl g ls st h k s
theorem r62_19 (σ : Nat → Value) (g : aG) (ls st : List Value) (h : aH) (k s : Nat) : Rn (aLk T62 σ) g 19 ls st h k s = (i_aload 2 20) g (Rn (aLk T62 σ) g) ls st h k s := Rn.go mo62 rfl g ls st h k s
theorem r62_20 (σ : Nat → Value) (g : aG) (ls st : List Value) (h : aH) (k s : Nat) : Rn (aLk T62 σ) g 20 ls st h k s = (i_iload 1 21) g (Rn (aLk T62 σ) g) ls st h k s := Rn.go mo62 rfl g ls st h k s
theorem r62_21 (σ : Nat → Value) (g : aG) (ls st : List Value) (h : aH) (k s : Nat) : Rn (aLk T62 σ) g 21 ls st h k s = (i_callV [(0, 53)] 2 [] 24) g (Rn (aLk T62 σ) g) ls st h k s := Rn.go mo62 rfl g ls st h k s
theorem r62_24 (σ : Nat → Value) (g : aG) (ls st : List Value) (h : aH) (k s : Nat) : Rn (aLk T62 σ) g 24 ls st h k s = (i_aload 3 25) g (Rn (aLk T62 σ) g) ls st h k s := Rn.go mo62 rfl g ls st h k s
theorem r62_25 (σ : Nat → Value) (g : aG) (ls st : List Value) (h : aH) (k s : Nat) : Rn (aLk T62 σ) g 25 ls st h k s = (i_aret) g (Rn (aLk T62 σ) g) ls st h k s := Rn.go mo62 rfl g ls st h k s
theorem r63_0 (σ : Nat → Value) (g : aG) (ls st : List Value) (h : aH) (k s : Nat) : Rn (aLk T63 σ) g 0 ls st h k s = (i_aload 0 1) g (Rn (aLk T63 σ) g) ls st h k s := Rn.go mo63 rfl g ls st h k s
theorem r63_1 (σ : Nat → Value) (g : aG) (ls st : List Value) (h : aH) (k s : Nat) : Rn (aLk T63 σ) g 1 ls st h k s = (i_getf 0 2 4) g (Rn (aLk T63 σ) g) ls st h k s := Rn.go mo63 rfl g ls st h k s
theorem r63_4 (σ : Nat → Value) (g : aG) (ls st : List Value) (h : aH) (k s : Nat) : Rn (aLk T63 σ) g 4 ls st h k s = (i_iret .int) g (Rn (aLk T63 σ) g) ls st h k s := Rn.go mo63 rfl g ls st h k s
theorem r64_0 (σ : Nat → Value) (g : aG) (ls st : List Value) (h : aH) (k s : Nat) : Rn (aLk T64 σ) g 0 ls st h k s = (i_aload 0 1) g (Rn (aLk T64 σ) g) ls st h k s := Rn.go mo64 rfl g ls st h k s
theorem r64_1 (σ : Nat → Value) (g : aG) (ls st : List Value) (h : aH) (k s : Nat) : Rn (aLk T64 σ) g 1 ls st h k s = (i_getf 0 1 4) g (Rn (aLk T64 σ) g) ls st h k s := Rn.go mo64 rfl g ls st h k s
theorem r64_4 (σ : Nat → Value) (g : aG) (ls st : List Value) (h : aH) (k s : Nat) : Rn (aLk T64 σ) g 4 ls st h k s = (i_aload 0 5) g (Rn (aLk T64 σ) g) ls st h k s := Rn.go mo64 rfl g ls st h k s
theorem r64_5 (σ : Nat → Value) (g : aG) (ls st : List Value) (h : aH) (k s : Nat) : Rn (aLk T64 σ) g 5 ls st h k s = (i_getf 0 2 8) g (Rn (aLk T64 σ) g) ls st h k s := Rn.go mo64 rfl g ls st h k s
theorem r64_8 (σ : Nat → Value) (g : aG) (ls st : List Value) (h : aH) (k s : Nat) : Rn (aLk T64 σ) g 8 ls st h k s = (i_callS 70 2 [] 11) g (Rn (aLk T64 σ) g) ls st h k s := Rn.go mo64 rfl g ls st h k s
theorem r64_11 (σ : Nat → Value) (g : aG) (ls st : List Value) (h : aH) (k s : Nat) : Rn (aLk T64 σ) g 11 ls st h k s = (i_aret) g (Rn (aLk T64 σ) g) ls st h k s := Rn.go mo64 rfl g ls st h k s
theorem r65_0 (σ : Nat → Value) (g : aG) (ls st : List Value) (h : aH) (k s : Nat) : Rn (aLk T65 σ) g 0 ls st h k s = (i_aload 0 1) g (Rn (aLk T65 σ) g) ls st h k s := Rn.go mo65 rfl g ls st h k s
theorem r65_1 (σ : Nat → Value) (g : aG) (ls st : List Value) (h : aH) (k s : Nat) : Rn (aLk T65 σ) g 1 ls st h k s = (i_aload 1 2) g (Rn (aLk T65 σ) g) ls st h k s := Rn.go mo65 rfl g ls st h k s
theorem r65_2 (σ : Nat → Value) (g : aG) (ls st : List Value) (h : aH) (k s : Nat) : Rn (aLk T65 σ) g 2 ls st h k s = (i_putf 1 3 (.object "java/util/ArrayList") 5) g (Rn (aLk T65 σ) g) ls st h k s := Rn.go mo65 rfl g ls st h k s
theorem r65_5 (σ : Nat → Value) (g : aG) (ls st : List Value) (h : aH) (k s : Nat) : Rn (aLk T65 σ) g 5 ls st h k s = (i_aload 0 6) g (Rn (aLk T65 σ) g) ls st h k s := Rn.go mo65 rfl g ls st h k s
theorem r65_6 (σ : Nat → Value) (g : aG) (ls st : List Value) (h : aH) (k s : Nat) : Rn (aLk T65 σ) g 6 ls st h k s = (i_oinit 9) g (Rn (aLk T65 σ) g) ls st h k s := Rn.go mo65 rfl g ls st h k s
theorem r65_9 (σ : Nat → Value) (g : aG) (ls st : List Value) (h : aH) (k s : Nat) : Rn (aLk T65 σ) g 9 ls st h k s = (i_aload 0 10) g (Rn (aLk T65 σ) g) ls st h k s := Rn.go mo65 rfl g ls st h k s
theorem r65_10 (σ : Nat → Value) (g : aG) (ls st : List Value) (h : aH) (k s : Nat) : Rn (aLk T65 σ) g 10 ls st h k s = (i_op (o_int (-1)) 11) g (Rn (aLk T65 σ) g) ls st h k s := Rn.go mo65 rfl g ls st h k s
theorem r65_11 (σ : Nat → Value) (g : aG) (ls st : List Value) (h : aH) (k s : Nat) : Rn (aLk T65 σ) g 11 ls st h k s = (i_putf 1 1 .int 14) g (Rn (aLk T65 σ) g) ls st h k s := Rn.go mo65 rfl g ls st h k s
theorem r65_14 (σ : Nat → Value) (g : aG) (ls st : List Value) (h : aH) (k s : Nat) : Rn (aLk T65 σ) g 14 ls st h k s = (i_aload 0 15) g (Rn (aLk T65 σ) g) ls st h k s := Rn.go mo65 rfl g ls st h k s
theorem r65_15 (σ : Nat → Value) (g : aG) (ls st : List Value) (h : aH) (k s : Nat) : Rn (aLk T65 σ) g 15 ls st h k s = (i_aload 0 16) g (Rn (aLk T65 σ) g) ls st h k s := Rn.go mo65 rfl g ls st h k s
theorem r65_16 (σ : Nat → Value) (g : aG) (ls st : List Value) (h : aH) (k s : Nat) : Rn (aLk T65 σ) g 16 ls st h k s = (i_getf 1 3 19) g (Rn (aLk T65 σ) g) ls st h k s := Rn.go mo65 rfl g ls st h k s
theorem r65_19 (σ : Nat → Value) (g : aG) (ls st : List Value) (h : aH) (k s : Nat) : Rn (aLk T65 σ) g 19 ls st h k s = (i_getf 0 0 22) g (Rn (aLk T65 σ) g) ls st h k s := Rn.go mo65 rfl g ls st h k s
theorem r65_22 (σ : Nat → Value) (g : aG) (ls st : List Value) (h : aH) (k s : Nat) : Rn (aLk T65 σ) g 22 ls st h k s = (i_putf 1 2 .int 25) g (Rn (aLk T65 σ) g) ls st h k s := Rn.go mo65 rfl g ls st h k s
theorem r65_25 (σ : Nat → Value) (g : aG) (ls st : List Value) (h : aH) (k s : Nat) : Rn (aLk T65 σ) g 25 ls st h k s = (i_ret) g (Rn (aLk T65 σ) g) ls st h k s := Rn.go mo65 rfl g ls st h k s
theorem r66_0 (σ : Nat → Value) (g : aG) (ls st : List Value) (h : aH) (k s : Nat) : Rn (aLk T66 σ) g 0 ls st h k s = (i_aload 0 1) g (Rn (aLk T66 σ) g) ls st h k s := Rn.go mo66 rfl g ls st h k s
theorem r66_1 (σ : Nat → Value) (g : aG) (ls st : List Value) (h : aH) (k s : Nat) : Rn (aLk T66 σ) g 1 ls st h k s = (i_getf 1 3 4) g (Rn (aLk T66 σ) g) ls st h k s := Rn.go mo66 rfl g ls st h k s
theorem r66_4 (σ : Nat → Value) (g : aG) (ls st : List Value) (h : aH) (k s : Nat) : Rn (aLk T66 σ) g 4 ls st h k s = (i_getf 0 0 7) g (Rn (aLk T66 σ) g) ls st h k s := Rn.go mo66 rfl g ls st h k s
theorem r66_7 (σ : Nat → Value) (g : aG) (ls st : List Value) (h : aH) (k s : Nat) : Rn (aLk T66 σ) g 7 ls st h k s = (i_aload 0 8) g (Rn (aLk T66 σ) g) ls st h k s := Rn.go mo66 rfl g ls st h k s
theorem r66_8 (σ : Nat → Value) (g : aG) (ls st : List Value) (h : aH) (k s : Nat) : Rn (aLk T66 σ) g 8 ls st h k s = (i_getf 1 2 11) g (Rn (aLk T66 σ) g) ls st h k s := Rn.go mo66 rfl g ls st h k s
theorem r66_11 (σ : Nat → Value) (g : aG) (ls st : List Value) (h : aH) (k s : Nat) : Rn (aLk T66 σ) g 11 ls st h k s = (i_ceq 22 14) g (Rn (aLk T66 σ) g) ls st h k s := Rn.go mo66 rfl g ls st h k s
theorem r66_17 (σ : Nat → Value) (g : aG) (ls st : List Value) (h : aH) (k s : Nat) : Rn (aLk T66 σ) g 17 ls st h k s = (i_op o_dup 18) g (Rn (aLk T66 σ) g) ls st h k s := Rn.go mo66 rfl g ls st h k s
theorem r66_22 (σ : Nat → Value) (g : aG) (ls st : List Value) (h : aH) (k s : Nat) : Rn (aLk T66 σ) g 22 ls st h k s = (i_ret) g (Rn (aLk T66 σ) g) ls st h k s := Rn.go mo66 rfl g ls st h k s
theorem r67_0 (σ : Nat → Value) (g : aG) (ls st : List Value) (h : aH) (k s : Nat) : Rn (aLk T67 σ) g 0 ls st h k s = (i_aload 0 1) g (Rn (aLk T67 σ) g) ls st h k s := Rn.go mo67 rfl g ls st h k s
theorem r67_1 (σ : Nat → Value) (g : aG) (ls st : List Value) (h : aH) (k s : Nat) : Rn (aLk T67 σ) g 1 ls st h k s = (i_getf 1 0 4) g (Rn (aLk T67 σ) g) ls st h k s := Rn.go mo67 rfl g ls st h k s
theorem r67_4 (σ : Nat → Value) (g : aG) (ls st : List Value) (h : aH) (k s : Nat) : Rn (aLk T67 σ) g 4 ls st h k s = (i_aload 0 5) g (Rn (aLk T67 σ) g) ls st h k s := Rn.go mo67 rfl g ls st h k s
theorem r67_5 (σ : Nat → Value) (g : aG) (ls st : List Value) (h : aH) (k s : Nat) : Rn (aLk T67 σ) g 5 ls st h k s = (i_getf 1 3 8) g (Rn (aLk T67 σ) g) ls st h k s := Rn.go mo67 rfl g ls st h k s
theorem r67_8 (σ : Nat → Value) (g : aG) (ls st : List Value) (h : aH) (k s : Nat) : Rn (aLk T67 σ) g 8 ls st h k s = (i_getf 0 2 11) g (Rn (aLk T67 σ) g) ls st h k s := Rn.go mo67 rfl g ls st h k s
theorem r67_11 (σ : Nat → Value) (g : aG) (ls st : List Value) (h : aH) (k s : Nat) : Rn (aLk T67 σ) g 11 ls st h k s = (i_ceq 18 14) g (Rn (aLk T67 σ) g) ls st h k s := Rn.go mo67 rfl g ls st h k s
theorem r67_14 (σ : Nat → Value) (g : aG) (ls st : List Value) (h : aH) (k s : Nat) : Rn (aLk T67 σ) g 14 ls st h k s = (i_op (o_int 1) 15) g (Rn (aLk T67 σ) g) ls st h k s := Rn.go mo67 rfl g ls st h k s
theorem r67_15 (σ : Nat → Value) (g : aG) (ls st : List Value) (h : aH) (k s : Nat) : Rn (aLk T67 σ) g 15 ls st h k s = (i_goto 19) g (Rn (aLk T67 σ) g) ls st h k s := Rn.go mo67 rfl g ls st h k s
theorem r67_18 (σ : Nat → Value) (g : aG) (ls st : List Value) (h : aH) (k s : Nat) : Rn (aLk T67 σ) g 18 ls st h k s = (i_op (o_int 0) 19) g (Rn (aLk T67 σ) g) ls st h k s := Rn.go mo67 rfl g ls st h k s
theorem r67_19 (σ : Nat → Value) (g : aG) (ls st : List Value) (h : aH) (k s : Nat) : Rn (aLk T67 σ) g 19 ls st h k s = (i_iret .boolean) g (Rn (aLk T67 σ) g) ls st h k s := Rn.go mo67 rfl g ls st h k s
theorem r68_0 (σ : Nat → Value) (g : aG) (ls st : List Value) (h : aH) (k s : Nat) : Rn (aLk T68 σ) g 0 ls st h k s = (i_aload 0 1) g (Rn (aLk T68 σ) g) ls st h k s := Rn.go mo68 rfl g ls st h k s
theorem r68_1 (σ : Nat → Value) (g : aG) (ls st : List Value) (h : aH) (k s : Nat) : Rn (aLk T68 σ) g 1 ls st h k s = (i_callV [(1, 66)] 0 [] 4) g (Rn (aLk T68 σ) g) ls st h k s := Rn.go mo68 rfl g ls st h k s
theorem r68_4 (σ : Nat → Value) (g : aG) (ls st : List Value) (h : aH) (k s : Nat) : Rn (aLk T68 σ) g 4 ls st h k s = (i_aload 0 5) g (Rn (aLk T68 σ) g) ls st h k s := Rn.go mo68 rfl g ls st h k s
theorem r68_5 (σ : Nat → Value) (g : aG) (ls st : List Value) (h : aH) (k s : Nat) : Rn (aLk T68 σ) g 5 ls st h k s = (i_getf 1 0 8) g (Rn (aLk T68 σ) g) ls st h k s := Rn.go mo68 rfl g ls st h k s
theorem r68_8 (σ : Nat → Value) (g : aG) (ls st : List Value) (h : aH) (k s : Nat) : Rn (aLk T68 σ) g 8 ls st h k s = (i_istore 1 9) g (Rn (aLk T68 σ) g) ls st h k s := Rn.go mo68 rfl g ls st h k s
theorem r68_9 (σ : Nat → Value) (g : aG) (ls st : List Value) (h : aH) (k s : Nat) : Rn (aLk T68 σ) g 9 ls st h k s = (i_iload 1 10) g (Rn (aLk T68 σ) g) ls st h k s := Rn.go mo68 rfl g ls st h k s
theorem r68_10 (σ : Nat → Value) (g : aG) (ls st : List Value) (h : aH) (k s : Nat) : Rn (aLk T68 σ) g 10 ls st h k s = (i_aload 0 11) g (Rn (aLk T68 σ) g) ls st h k s := Rn.go mo68 rfl g ls st h k s
theorem r68_11 (σ : Nat → Value) (g : aG) (ls st : List Value) (h : aH) (k s : Nat) : Rn (aLk T68 σ) g 11 ls st h k s = (i_getf 1 3 14) g (Rn (aLk T68 σ) g) ls st h k s := Rn.go mo68 rfl g ls st h k s
theorem r68_14 (σ : Nat → Value) (g : aG) (ls st : List Value) (h : aH) (k s : Nat) : Rn (aLk T68 σ) g 14 ls st h k s = (i_getf 0 2 17) g (Rn (aLk T68 σ) g) ls st h k s := Rn.go mo68 rfl g ls st h k s
theorem r68_17 (σ : Nat → Value) (g : aG) (ls st : List Value) (h : aH) (k s : Nat) : Rn (aLk T68 σ) g 17 ls st h k s = (i_clt 28 20) g (Rn (aLk T68 σ) g) ls st h k s := Rn.go mo68 rfl g ls st h k s
theorem r68_23 (σ : Nat → Value) (g : aG) (ls st : List Value) (h : aH) (k s : Nat) : Rn (aLk T68 σ) g 23 ls st h k s = (i_op o_dup 24) g (Rn (aLk T68 σ) g) ls st h k s := Rn.go mo68 rfl g ls st h k s
theorem r68_28 (σ : Nat → Value) (g : aG) (ls st : List Value) (h : aH) (k s : Nat) : Rn (aLk T68 σ) g 28 ls st h k s = (i_aload 0 29) g (Rn (aLk T68 σ) g) ls st h k s := Rn.go mo68 rfl g ls st h k s
theorem r68_29 (σ : Nat → Value) (g : aG) (ls st : List Value) (h : aH) (k s : Nat) : Rn (aLk T68 σ) g 29 ls st h k s = (i_getf 1 3 32) g (Rn (aLk T68 σ) g) ls st h k s := Rn.go mo68 rfl g ls st h k s
theorem r68_32 (σ : Nat → Value) (g : aG) (ls st : List Value) (h : aH) (k s : Nat) : Rn (aLk T68 σ) g 32 ls st h k s = (i_getf 0 1 35) g (Rn (aLk T68 σ) g) ls st h k s := Rn.go mo68 rfl g ls st h k s
theorem r68_35 (σ : Nat → Value) (g : aG) (ls st : List Value) (h : aH) (k s : Nat) : Rn (aLk T68 σ) g 35 ls st h k s = (i_astore 2 36) g (Rn (aLk T68 σ) g) ls st h k s := Rn.go mo68 rfl g ls st h k s
theorem r68_36 (σ : Nat → Value) (g : aG) (ls st : List Value) (h : aH) (k s : Nat) : Rn (aLk T68 σ) g 36 ls st h k s = (i_iload 1 37) g (Rn (aLk T68 σ) g) ls st h k s := Rn.go mo68 rfl g ls st h k s
theorem r68_37 (σ : Nat → Value) (g : aG) (ls st : List Value) (h : aH) (k s : Nat) : Rn (aLk T68 σ) g 37 ls st h k s = (i_aload 2 38) g (Rn (aLk T68 σ) g) ls st h k s := Rn.go mo68 rfl g ls st h k s
theorem r68_38 (σ : Nat → Value) (g : aG) (ls st : List Value) (h : aH) (k s : Nat) : Rn (aLk T68 σ) g 38 ls st h k s = (i_alen 39) g (Rn (aLk T68 σ) g) ls st h k s := Rn.go mo68 rfl g ls st h k s
theorem r68_39 (σ : Nat → Value) (g : aG) (ls st : List Value) (h : aH) (k s : Nat) : Rn (aLk T68 σ) g 39 ls st h k s = (i_clt 50 42) g (Rn (aLk T68 σ) g) ls st h k s := Rn.go mo68 rfl g ls st h k s
theorem r68_45 (σ : Nat → Value) (g : aG) (ls st : List Value) (h : aH) (k s : Nat) : Rn (aLk T68 σ) g 45 ls st h k s = (i_op o_dup 46) g (Rn (aLk T68 σ) g) ls st h k s := Rn.go mo68 rfl g ls st h k s
theorem r68_50 (σ : Nat → Value) (g : aG) (ls st : List Value) (h : aH) (k s : Nat) : Rn (aLk T68 σ) g 50 ls st h k s = (i_aload 0 51) g (Rn (aLk T68 σ) g) ls st h k s := Rn.go mo68 rfl g ls st h k s
theorem r68_51 (σ : Nat → Value) (g : aG) (ls st : List Value) (h : aH) (k s : Nat) : Rn (aLk T68 σ) g 51 ls st h k s = (i_iload 1 52) g (Rn (aLk T68 σ) g) ls st h k s := Rn.go mo68 rfl g ls st h k s
theorem r68_52 (σ : Nat → Value) (g : aG) (ls st : List Value) (h : aH) (k s : Nat) : Rn (aLk T68 σ) g 52 ls st h k s = (i_op (o_int 1) 53) g (Rn (aLk T68 σ) g) ls st h k s := Rn.go mo68 rfl g ls st h k s
theorem r68_53 (σ : Nat → Value) (g : aG) (ls st : List Value) (h : aH) (k s : Nat) : Rn (aLk T68 σ) g 53 ls st h k s = (i_op o_iadd 54) g (Rn (aLk T68 σ) g) ls st h k s := Rn.go mo68 rfl g ls st h k s
theorem r68_54 (σ : Nat → Value) (g : aG) (ls st : List Value) (h : aH) (k s : Nat) : Rn (aLk T68 σ) g 54 ls st h k s = (i_putf 1 0 .int 57) g (Rn (aLk T68 σ) g) ls st h k s := Rn.go mo68 rfl g ls st h k s
theorem r68_57 (σ : Nat → Value) (g : aG) (ls st : List Value) (h : aH) (k s : Nat) : Rn (aLk T68 σ) g 57 ls st h k s = (i_aload 2 58) g (Rn (aLk T68 σ) g) ls st h k s := Rn.go mo68 rfl g ls st h k s
theorem r68_58 (σ : Nat → Value) (g : aG) (ls st : List Value) (h : aH) (k s : Nat) : Rn (aLk T68 σ) g 58 ls st h k s = (i_aload 0 59) g (Rn (aLk T68 σ) g) ls st h k s := Rn.go mo68 rfl g ls st h k s
theorem r68_59 (σ : Nat → Value) (g : aG) (ls st : List Value) (h : aH) (k s : Nat) : Rn (aLk T68 σ) g 59 ls st h k s = (i_iload 1 60) g (Rn (aLk T68 σ) g) ls st h k s := Rn.go mo68 rfl g ls st h k s
theorem r68_60 (σ : Nat → Value) (g : aG) (ls st : List Value) (h : aH) (k s : Nat) : Rn (aLk T68 σ) g 60 ls st h k s = (i_op o_dup_x1 61) g (Rn (aLk T68 σ) g) ls st h k s := Rn.go mo68 rfl g ls st h k s
theorem r68_61 (σ : Nat → Value) (g : aG) (ls st : List Value) (h : aH) (k s : Nat) : Rn (aLk T68 σ) g 61 ls st h k s = (i_putf 1 1 .int 64) g (Rn (aLk T68 σ) g) ls st h k s := Rn.go mo68 rfl g ls st h k s
theorem r68_64 (σ : Nat → Value) (g : aG) (ls st : List Value) (h : aH) (k s : Nat) : Rn (aLk T68 σ) g 64 ls st h k s = (i_aald [4, 5, 6, 7, 1004, 1008, 1009] 65) g (Rn (aLk T68 σ) g) ls st h k s := Rn.go mo68 rfl g ls st h k s
theorem r68_65 (σ : Nat → Value) (g : aG) (ls st : List Value) (h : aH) (k s : Nat) : Rn (aLk T68 σ) g 65 ls st h k s = (i_aret) g (Rn (aLk T68 σ) g) ls st h k s := Rn.go mo68 rfl g ls st h k s
theorem r69_0 (σ : Nat → Value) (g : aG) (ls st : List Value) (h : aH) (k s : Nat) : Rn (aLk T69 σ) g 0 ls st h k s = (i_iload 1 1) g (Rn (aLk T69 σ) g) ls st h k s := Rn.go mo69 rfl g ls st h k s
theorem r69_1 (σ : Nat → Value) (g : aG) (ls st : List Value) (h : aH) (k s : Nat) : Rn (aLk T69 σ) g 1 ls st h k s = (i_aload 0 2) g (Rn (aLk T69 σ) g) ls st h k s := Rn.go mo69 rfl g ls st h k s
theorem r69_2 (σ : Nat → Value) (g : aG) (ls st : List Value) (h : aH) (k s : Nat) : Rn (aLk T69 σ) g 2 ls st h k s = (i_alen 3) g (Rn (aLk T69 σ) g) ls st h k s := Rn.go mo69 rfl g ls st h k s
theorem r69_3 (σ : Nat → Value) (g : aG) (ls st : List Value) (h : aH) (k s : Nat) : Rn (aLk T69 σ) g 3 ls st h k s = (i_cne 14 6) g (Rn (aLk T69 σ) g) ls st h k s := Rn.go mo69 rfl g ls st h k s
theorem r69_6 (σ : Nat → Value) (g : aG) (ls st : List Value) (h : aH) (k s : Nat) : Rn (aLk T69 σ) g 6 ls st h k s = (i_aload 0 7) g (Rn (aLk T69 σ) g) ls st h k s := Rn.go mo69 rfl g ls st h k s
theorem r69_10 (σ : Nat → Value) (g : aG) (ls st : List Value) (h : aH) (k s : Nat) : Rn (aLk T69 σ) g 10 ls st h k s = (i_cast [] [] 13) g (Rn (aLk T69 σ) g) ls st h k s := Rn.go mo69 rfl g ls st h k s
theorem r69_13 (σ : Nat → Value) (g : aG) (ls st : List Value) (h : aH) (k s : Nat) : Rn (aLk T69 σ) g 13 ls st h k s = (i_aret) g (Rn (aLk T69 σ) g) ls st h k s := Rn.go mo69 rfl g ls st h k s
theorem r69_14 (σ : Nat → Value) (g : aG) (ls st : List Value) (h : aH) (k s : Nat) : Rn (aLk T69 σ) g 14 ls st h k s = (i_iload 1 15) g (Rn (aLk T69 σ) g) ls st h k s := Rn.go mo69 rfl g ls st h k s
theorem r69_15 (σ : Nat → Value) (g : aG) (ls st : List Value) (h : aH) (k s : Nat) : Rn (aLk T69 σ) g 15 ls st h k s = (i_newa 2 (.inr (.inl fun _ => 0)) 8 17) g (Rn (aLk T69 σ) g) ls st h k s := Rn.go mo69 rfl g ls st h k s
theorem r69_17 (σ : Nat → Value) (g : aG) (ls st : List Value) (h : aH) (k s : Nat) : Rn (aLk T69 σ) g 17 ls st h k s = (i_astore 2 18) g (Rn (aLk T69 σ) g) ls st h k s := Rn.go mo69 rfl g ls st h k s
theorem r69_18 (σ : Nat → Value) (g : aG) (ls st : List Value) (h : aH) (k s : Nat) : Rn (aLk T69 σ) g 18 ls st h k s = (i_aload 0 19) g (Rn (aLk T69 σ) g) ls st h k s := Rn.go mo69 rfl g ls st h k s
theorem r69_19 (σ : Nat → Value) (g : aG) (ls st : List Value) (h : aH) (k s : Nat) : Rn (aLk T69 σ) g 19 ls st h k s = (i_op (o_int 0) 20) g (Rn (aLk T69 σ) g) ls st h k s := Rn.go mo69 rfl g ls st h k s
theorem r69_20 (σ : Nat → Value) (g : aG) (ls st : List Value) (h : aH) (k s : Nat) : Rn (aLk T69 σ) g 20 ls st h k s = (i_aload 2 21) g (Rn (aLk T69 σ) g) ls st h k s := Rn.go mo69 rfl g ls st h k s
theorem r69_21 (σ : Nat → Value) (g : aG) (ls st : List Value) (h : aH) (k s : Nat) : Rn (aLk T69 σ) g 21 ls st h k s = (i_op (o_int 0) 22) g (Rn (aLk T69 σ) g) ls st h k s := Rn.go mo69 rfl g ls st h k s
theorem r69_22 (σ : Nat → Value) (g : aG) (ls st : List Value) (h : aH) (k s : Nat) : Rn (aLk T69 σ) g 22 ls st h k s = (i_aload 0 23) g (Rn (aLk T69 σ) g) ls st h k s := Rn.go mo69 rfl g ls st h k s
theorem r69_23 (σ : Nat → Value) (g : aG) (ls st : List Value) (h : aH) (k s : Nat) : Rn (aLk T69 σ) g 23 ls st h k s = (i_alen 24) g (Rn (aLk T69 σ) g) ls st h k s := Rn.go mo69 rfl g ls st h k s
theorem r69_24 (σ : Nat → Value) (g : aG) (ls st : List Value) (h : aH) (k s : Nat) : Rn (aLk T69 σ) g 24 ls st h k s = (i_iload 1 25) g (Rn (aLk T69 σ) g) ls st h k s := Rn.go mo69 rfl g ls st h k s
theorem r69_25 (σ : Nat → Value) (g : aG) (ls st : List Value) (h : aH) (k s : Nat) : Rn (aLk T69 σ) g 25 ls st h k s = (i_mmin 28) g (Rn (aLk T69 σ) g) ls st h k s := Rn.go mo69 rfl g ls st h k s
theorem r69_28 (σ : Nat → Value) (g : aG) (ls st : List Value) (h : aH) (k s : Nat) : Rn (aLk T69 σ) g 28 ls st h k s = (i_acopy 31) g (Rn (aLk T69 σ) g) ls st h k s := Rn.go mo69 rfl g ls st h k s
theorem r69_31 (σ : Nat → Value) (g : aG) (ls st : List Value) (h : aH) (k s : Nat) : Rn (aLk T69 σ) g 31 ls st h k s = (i_aload 2 32) g (Rn (aLk T69 σ) g) ls st h k s := Rn.go mo69 rfl g ls st h k s
theorem r69_32 (σ : Nat → Value) (g : aG) (ls st : List Value) (h : aH) (k s : Nat) : Rn (aLk T69 σ) g 32 ls st h k s = (i_aret) g (Rn (aLk T69 σ) g) ls st h k s := Rn.go mo69 rfl g ls st h k s
theorem r70_0 (σ : Nat → Value) (g : aG) (ls st : List Value) (h : aH) (k s : Nat) : Rn (aLk T70 σ) g 0 ls st h k s = (i_aload 0 1) g (Rn (aLk T70 σ) g) ls st h k s := Rn.go mo70 rfl g ls st h k s
theorem r70_1 (σ : Nat → Value) (g : aG) (ls st : List Value) (h : aH) (k s : Nat) : Rn (aLk T70 σ) g 1 ls st h k s = (i_iload 1 2) g (Rn (aLk T70 σ) g) ls st h k s := Rn.go mo70 rfl g ls st h k s
theorem r70_2 (σ : Nat → Value) (g : aG) (ls st : List Value) (h : aH) (k s : Nat) : Rn (aLk T70 σ) g 2 ls st h k s = (i_aload 0 3) g (Rn (aLk T70 σ) g) ls st h k s := Rn.go mo70 rfl g ls st h k s
theorem r70_3 (σ : Nat → Value) (g : aG) (ls st : List Value) (h : aH) (k s : Nat) : Rn (aLk T70 σ) g 3 ls st h k s = (i_getC (σ 90) 6) g (Rn (aLk T70 σ) g) ls st h k s := Rn.go mo70 rfl g ls st h k s
theorem r70_6 (σ : Nat → Value) (g : aG) (ls st : List Value) (h : aH) (k s : Nat) : Rn (aLk T70 σ) g 6 ls st h k s = (i_callS 71 3 [] 9) g (Rn (aLk T70 σ) g) ls st h k s := Rn.go mo70 rfl g ls st h k s
theorem r70_9 (σ : Nat → Value) (g : aG) (ls st : List Value) (h : aH) (k s : Nat) : Rn (aLk T70 σ) g 9 ls st h k s = (i_aret) g (Rn (aLk T70 σ) g) ls st h k s := Rn.go mo70 rfl g ls st h k s
theorem r71_0 (σ : Nat → Value) (g : aG) (ls st : List Value) (h : aH) (k s : Nat) : Rn (aLk T71 σ) g 0 ls st h k s = (i_aload 2 1) g (Rn (aLk T71 σ) g) ls st h k s := Rn.go mo71 rfl g ls st h k s
theorem r71_1 (σ : Nat → Value) (g : aG) (ls st : List Value) (h : aH) (k s : Nat) : Rn (aLk T71 σ) g 1 ls st h k s = (i_push (σ 90) 3) g (Rn (aLk T71 σ) g) ls st h k s := Rn.go mo71 rfl g ls st h k s
theorem r71_3 (σ : Nat → Value) (g : aG) (ls st : List Value) (h : aH) (k s : Nat) : Rn (aLk T71 σ) g 3 ls st h k s = (i_ane 13 6) g (Rn (aLk T71 σ) g) ls st h k s := Rn.go mo71 rfl g ls st h k s
theorem r71_6 (σ : Nat → Value) (g : aG) (ls st : List Value) (h : aH) (k s : Nat) : Rn (aLk T71 σ) g 6 ls st h k s = (i_iload 1 7) g (Rn (aLk T71 σ) g) ls st h k s := Rn.go mo71 rfl g ls st h k s
theorem r71_7 (σ : Nat → Value) (g : aG) (ls st : List Value) (h : aH) (k s : Nat) : Rn (aLk T71 σ) g 7 ls st h k s = (i_newa 4 (.inr (.inr (.inr (.inr fun _ => none)))) 4 10) g (Rn (aLk T71 σ) g) ls st h k s := Rn.go mo71 rfl g ls st h k s
theorem r71_10 (σ : Nat → Value) (g : aG) (ls st : List Value) (h : aH) (k s : Nat) : Rn (aLk T71 σ) g 10 ls st h k s = (i_goto 24) g (Rn (aLk T71 σ) g) ls st h k s := Rn.go mo71 rfl g ls st h k s
theorem r71_13 (σ : Nat → Value) (g : aG) (ls st : List Value) (h : aH) (k s : Nat) : Rn (aLk T71 σ) g 13 ls st h k s = (i_aload 2 14) g (Rn (aLk T71 σ) g) ls st h k s := Rn.go mo71 rfl g ls st h k s
theorem r71_17 (σ : Nat → Value) (g : aG) (ls st : List Value) (h : aH) (k s : Nat) : Rn (aLk T71 σ) g 17 ls st h k s = (i_iload 1 18) g (Rn (aLk T71 σ) g) ls st h k s := Rn.go mo71 rfl g ls st h k s
theorem r71_21 (σ : Nat → Value) (g : aG) (ls st : List Value) (h : aH) (k s : Nat) : Rn (aLk T71 σ) g 21 ls st h k s = (i_cast [] [4, 1004] 24) g (Rn (aLk T71 σ) g) ls st h k s := Rn.go mo71 rfl g ls st h k s
theorem r71_24 (σ : Nat → Value) (g : aG) (ls st : List Value) (h : aH) (k s : Nat) : Rn (aLk T71 σ) g 24 ls st h k s = (i_astore 3 25) g (Rn (aLk T71 σ) g) ls st h k s := Rn.go mo71 rfl g ls st h k s
theorem r71_25 (σ : Nat → Value) (g : aG) (ls st : List Value) (h : aH) (k s : Nat) : Rn (aLk T71 σ) g 25 ls st h k s = (i_aload 0 26) g (Rn (aLk T71 σ) g) ls st h k s := Rn.go mo71 rfl g ls st h k s
theorem r71_26 (σ : Nat → Value) (g : aG) (ls st : List Value) (h : aH) (k s : Nat) : Rn (aLk T71 σ) g 26 ls st h k s = (i_op (o_int 0) 27) g (Rn (aLk T71 σ) g) ls st h k s := Rn.go mo71 rfl g ls st h k s
theorem r71_27 (σ : Nat → Value) (g : aG) (ls st : List Value) (h : aH) (k s : Nat) : Rn (aLk T71 σ) g 27 ls st h k s = (i_aload 3 28) g (Rn (aLk T71 σ) g) ls st h k s := Rn.go mo71 rfl g ls st h k s
theorem r71_28 (σ : Nat → Value) (g : aG) (ls st : List Value) (h : aH) (k s : Nat) : Rn (aLk T71 σ) g 28 ls st h k s = (i_op (o_int 0) 29) g (Rn (aLk T71 σ) g) ls st h k s := Rn.go mo71 rfl g ls st h k s
theorem r71_29 (σ : Nat → Value) (g : aG) (ls st : List Value) (h : aH) (k s : Nat) : Rn (aLk T71 σ) g 29 ls st h k s = (i_aload 0 30) g (Rn (aLk T71 σ) g) ls st h k s := Rn.go mo71 rfl g ls st h k s
theorem r71_30 (σ : Nat → Value) (g : aG) (ls st : List Value) (h : aH) (k s : Nat) : Rn (aLk T71 σ) g 30 ls st h k s = (i_alen 31) g (Rn (aLk T71 σ) g) ls st h k s := Rn.go mo71 rfl g ls st h k s
theorem r71_31 (σ : Nat → Value) (g : aG) (ls st : List Value) (h : aH) (k s : Nat) : Rn (aLk T71 σ) g 31 ls st h k s = (i_iload 1 32) g (Rn (aLk T71 σ) g) ls st h k s := Rn.go mo71 rfl g ls st h k s
theorem r71_32 (σ : Nat → Value) (g : aG) (ls st : List Value) (h : aH) (k s : Nat) : Rn (aLk T71 σ) g 32 ls st h k s = (i_mmin 35) g (Rn (aLk T71 σ) g) ls st h k s := Rn.go mo71 rfl g ls st h k s
theorem r71_35 (σ : Nat → Value) (g : aG) (ls st : List Value) (h : aH) (k s : Nat) : Rn (aLk T71 σ) g 35 ls st h k s = (i_acopy 38) g (Rn (aLk T71 σ) g) ls st h k s := Rn.go mo71 rfl g ls st h k s
theorem r71_38 (σ : Nat → Value) (g : aG) (ls st : List Value) (h : aH) (k s : Nat) : Rn (aLk T71 σ) g 38 ls st h k s = (i_aload 3 39) g (Rn (aLk T71 σ) g) ls st h k s := Rn.go mo71 rfl g ls st h k s
theorem r71_39 (σ : Nat → Value) (g : aG) (ls st : List Value) (h : aH) (k s : Nat) : Rn (aLk T71 σ) g 39 ls st h k s = (i_aret) g (Rn (aLk T71 σ) g) ls st h k s := Rn.go mo71 rfl g ls st h k s
theorem r72_0 (σ : Nat → Value) (g : aG) (ls st : List Value) (h : aH) (k s : Nat) : Rn (aLk T72 σ) g 0 ls st h k s = (i_aload 0 1) g (Rn (aLk T72 σ) g) ls st h k s := Rn.go mo72 rfl g ls st h k s
theorem r72_1 (σ : Nat → Value) (g : aG) (ls st : List Value) (h : aH) (k s : Nat) : Rn (aLk T72 σ) g 1 ls st h k s = (i_aload 1 2) g (Rn (aLk T72 σ) g) ls st h k s := Rn.go mo72 rfl g ls st h k s
theorem r72_2 (σ : Nat → Value) (g : aG) (ls st : List Value) (h : aH) (k s : Nat) : Rn (aLk T72 σ) g 2 ls st h k s = (i_ane 7 5) g (Rn (aLk T72 σ) g) ls st h k s := Rn.go mo72 rfl g ls st h k s
theorem r72_5 (σ : Nat → Value) (g : aG) (ls st : List Value) (h : aH) (k s : Nat) : Rn (aLk T72 σ) g 5 ls st h k s = (i_op (o_int 1) 6) g (Rn (aLk T72 σ) g) ls st h k s := Rn.go mo72 rfl g ls st h k s
theorem r72_6 (σ : Nat → Value) (g : aG) (ls st : List Value) (h : aH) (k s : Nat) : Rn (aLk T72 σ) g 6 ls st h k s = (i_iret .boolean) g (Rn (aLk T72 σ) g) ls st h k s := Rn.go mo72 rfl g ls st h k s
theorem r72_7 (σ : Nat → Value) (g : aG) (ls st : List Value) (h : aH) (k s : Nat) : Rn (aLk T72 σ) g 7 ls st h k s = (i_aload 0 8) g (Rn (aLk T72 σ) g) ls st h k s := Rn.go mo72 rfl g ls st h k s
theorem r72_8 (σ : Nat → Value) (g : aG) (ls st : List Value) (h : aH) (k s : Nat) : Rn (aLk T72 σ) g 8 ls st h k s = (i_null 15 11) g (Rn (aLk T72 σ) g) ls st h k s := Rn.go mo72 rfl g ls st h k s
theorem r72_11 (σ : Nat → Value) (g : aG) (ls st : List Value) (h : aH) (k s : Nat) : Rn (aLk T72 σ) g 11 ls st h k s = (i_aload 1 12) g (Rn (aLk T72 σ) g) ls st h k s := Rn.go mo72 rfl g ls st h k s
theorem r72_12 (σ : Nat → Value) (g : aG) (ls st : List Value) (h : aH) (k s : Nat) : Rn (aLk T72 σ) g 12 ls st h k s = (i_nnull 17 15) g (Rn (aLk T72 σ) g) ls st h k s := Rn.go mo72 rfl g ls st h k s
theorem r72_15 (σ : Nat → Value) (g : aG) (ls st : List Value) (h : aH) (k s : Nat) : Rn (aLk T72 σ) g 15 ls st h k s = (i_op (o_int 0) 16) g (Rn (aLk T72 σ) g) ls st h k s := Rn.go mo72 rfl g ls st h k s
theorem r72_16 (σ : Nat → Value) (g : aG) (ls st : List Value) (h : aH) (k s : Nat) : Rn (aLk T72 σ) g 16 ls st h k s = (i_iret .boolean) g (Rn (aLk T72 σ) g) ls st h k s := Rn.go mo72 rfl g ls st h k s
theorem r72_17 (σ : Nat → Value) (g : aG) (ls st : List Value) (h : aH) (k s : Nat) : Rn (aLk T72 σ) g 17 ls st h k s = (i_aload 0 18) g (Rn (aLk T72 σ) g) ls st h k s := Rn.go mo72 rfl g ls st h k s
theorem r72_18 (σ : Nat → Value) (g : aG) (ls st : List Value) (h : aH) (k s : Nat) : Rn (aLk T72 σ) g 18 ls st h k s = (i_alen 19) g (Rn (aLk T72 σ) g) ls st h k s := Rn.go mo72 rfl g ls st h k s
theorem r72_19 (σ : Nat → Value) (g : aG) (ls st : List Value) (h : aH) (k s : Nat) : Rn (aLk T72 σ) g 19 ls st h k s = (i_istore 2 20) g (Rn (aLk T72 σ) g) ls st h k s := Rn.go mo72 rfl g ls st h k s
theorem r72_20 (σ : Nat → Value) (g : aG) (ls st : List Value) (h : aH) (k s : Nat) : Rn (aLk T72 σ) g 20 ls st h k s = (i_aload 1 21) g (Rn (aLk T72 σ) g) ls st h k s := Rn.go mo72 rfl g ls st h k s
theorem r72_21 (σ : Nat → Value) (g : aG) (ls st : List Value) (h : aH) (k s : Nat) : Rn (aLk T72 σ) g 21 ls st h k s = (i_alen 22) g (Rn (aLk T72 σ) g) ls st h k s := Rn.go mo72 rfl g ls st h k s
theorem r72_22 (σ : Nat → Value) (g : aG) (ls st : List Value) (h : aH) (k s : Nat) : Rn (aLk T72 σ) g 22 ls st h k s = (i_iload 2 23) g (Rn (aLk T72 σ) g) ls st h k s := Rn.go mo72 rfl g ls st h k s
theorem r72_23 (σ : Nat → Value) (g : aG) (ls st : List Value) (h : aH) (k s : Nat) : Rn (aLk T72 σ) g 23 ls st h k s = (i_ceq 28 26) g (Rn (aLk T72 σ) g) ls st h k s := Rn.go mo72 rfl g ls st h k s
theorem r72_26 (σ : Nat → Value) (g : aG) (ls st : List Value) (h : aH) (k s : Nat) : Rn (aLk T72 σ) g 26 ls st h k s = (i_op (o_int 0) 27) g (Rn (aLk T72 σ) g) ls st h k s := Rn.go mo72 rfl g ls st h k s
theorem r72_27 (σ : Nat → Value) (g : aG) (ls st : List Value) (h : aH) (k s : Nat) : Rn (aLk T72 σ) g 27 ls st h k s = (i_iret .boolean) g (Rn (aLk T72 σ) g) ls st h k s := Rn.go mo72 rfl g ls st h k s
theorem r72_28 (σ : Nat → Value) (g : aG) (ls st : List Value) (h : aH) (k s : Nat) : Rn (aLk T72 σ) g 28 ls st h k s = (i_aload 0 29) g (Rn (aLk T72 σ) g) ls st h k s := Rn.go mo72 rfl g ls st h k s
theorem r72_29 (σ : Nat → Value) (g : aG) (ls st : List Value) (h : aH) (k s : Nat) : Rn (aLk T72 σ) g 29 ls st h k s = (i_aload 1 30) g (Rn (aLk T72 σ) g) ls st h k s := Rn.go mo72 rfl g ls st h k s
theorem r72_30 (σ : Nat → Value) (g : aG) (ls st : List Value) (h : aH) (k s : Nat) : Rn (aLk T72 σ) g 30 ls st h k s = (i_iload 2 31) g (Rn (aLk T72 σ) g) ls st h k s := Rn.go mo72 rfl g ls st h k s
theorem r72_31 (σ : Nat → Value) (g : aG) (ls st : List Value) (h : aH) (k s : Nat) : Rn (aLk T72 σ) g 31 ls st h k s = (i_callS 119 3 [] 34) g (Rn (aLk T72 σ) g) ls st h k s := Rn.go mo72 rfl g ls st h k s
theorem r72_34 (σ : Nat → Value) (g : aG) (ls st : List Value) (h : aH) (k s : Nat) : Rn (aLk T72 σ) g 34 ls st h k s = (i_ifge 41 37) g (Rn (aLk T72 σ) g) ls st h k s := Rn.go mo72 rfl g ls st h k s
theorem r72_37 (σ : Nat → Value) (g : aG) (ls st : List Value) (h : aH) (k s : Nat) : Rn (aLk T72 σ) g 37 ls st h k s = (i_op (o_int 1) 38) g (Rn (aLk T72 σ) g) ls st h k s := Rn.go mo72 rfl g ls st h k s
theorem r72_38 (σ : Nat → Value) (g : aG) (ls st : List Value) (h : aH) (k s : Nat) : Rn (aLk T72 σ) g 38 ls st h k s = (i_goto 42) g (Rn (aLk T72 σ) g) ls st h k s := Rn.go mo72 rfl g ls st h k s
theorem r72_41 (σ : Nat → Value) (g : aG) (ls st : List Value) (h : aH) (k s : Nat) : Rn (aLk T72 σ) g 41 ls st h k s = (i_op (o_int 0) 42) g (Rn (aLk T72 σ) g) ls st h k s := Rn.go mo72 rfl g ls st h k s
theorem r72_42 (σ : Nat → Value) (g : aG) (ls st : List Value) (h : aH) (k s : Nat) : Rn (aLk T72 σ) g 42 ls st h k s = (i_iret .boolean) g (Rn (aLk T72 σ) g) ls st h k s := Rn.go mo72 rfl g ls st h k s
theorem r73_0 (σ : Nat → Value) (g : aG) (ls st : List Value) (h : aH) (k s : Nat) : Rn (aLk T73 σ) g 0 ls st h k s = (i_op (o_int 0) 1) g (Rn (aLk T73 σ) g) ls st h k s := Rn.go mo73 rfl g ls st h k s
theorem r73_1 (σ : Nat → Value) (g : aG) (ls st : List Value) (h : aH) (k s : Nat) : Rn (aLk T73 σ) g 1 ls st h k s = (i_istore 2 2) g (Rn (aLk T73 σ) g) ls st h k s := Rn.go mo73 rfl g ls st h k s
theorem r73_2 (σ : Nat → Value) (g : aG) (ls st : List Value) (h : aH) (k s : Nat) : Rn (aLk T73 σ) g 2 ls st h k s = (i_aload 0 3) g (Rn (aLk T73 σ) g) ls st h k s := Rn.go mo73 rfl g ls st h k s
theorem r73_3 (σ : Nat → Value) (g : aG) (ls st : List Value) (h : aH) (k s : Nat) : Rn (aLk T73 σ) g 3 ls st h k s = (i_alen 4) g (Rn (aLk T73 σ) g) ls st h k s := Rn.go mo73 rfl g ls st h k s
theorem r73_4 (σ : Nat → Value) (g : aG) (ls st : List Value) (h : aH) (k s : Nat) : Rn (aLk T73 σ) g 4 ls st h k s = (i_istore 3 5) g (Rn (aLk T73 σ) g) ls st h k s := Rn.go mo73 rfl g ls st h k s
theorem r73_5 (σ : Nat → Value) (g : aG) (ls st : List Value) (h : aH) (k s : Nat) : Rn (aLk T73 σ) g 5 ls st h k s = (i_iload 2 6) g (Rn (aLk T73 σ) g) ls st h k s := Rn.go mo73 rfl g ls st h k s
theorem r73_6 (σ : Nat → Value) (g : aG) (ls st : List Value) (h : aH) (k s : Nat) : Rn (aLk T73 σ) g 6 ls st h k s = (i_iload 3 7) g (Rn (aLk T73 σ) g) ls st h k s := Rn.go mo73 rfl g ls st h k s
theorem r73_7 (σ : Nat → Value) (g : aG) (ls st : List Value) (h : aH) (k s : Nat) : Rn (aLk T73 σ) g 7 ls st h k s = (i_cge 20 10) g (Rn (aLk T73 σ) g) ls st h k s := Rn.go mo73 rfl g ls st h k s
theorem r73_10 (σ : Nat → Value) (g : aG) (ls st : List Value) (h : aH) (k s : Nat) : Rn (aLk T73 σ) g 10 ls st h k s = (i_aload 0 11) g (Rn (aLk T73 σ) g) ls st h k s := Rn.go mo73 rfl g ls st h k s
theorem r73_11 (σ : Nat → Value) (g : aG) (ls st : List Value) (h : aH) (k s : Nat) : Rn (aLk T73 σ) g 11 ls st h k s = (i_iload 2 12) g (Rn (aLk T73 σ) g) ls st h k s := Rn.go mo73 rfl g ls st h k s
theorem r73_12 (σ : Nat → Value) (g : aG) (ls st : List Value) (h : aH) (k s : Nat) : Rn (aLk T73 σ) g 12 ls st h k s = (i_iload 1 13) g (Rn (aLk T73 σ) g) ls st h k s := Rn.go mo73 rfl g ls st h k s
theorem r73_13 (σ : Nat → Value) (g : aG) (ls st : List Value) (h : aH) (k s : Nat) : Rn (aLk T73 σ) g 13 ls st h k s = (i_iast 0 .int 14) g (Rn (aLk T73 σ) g) ls st h k s := Rn.go mo73 rfl g ls st h k s
theorem r73_14 (σ : Nat → Value) (g : aG) (ls st : List Value) (h : aH) (k s : Nat) : Rn (aLk T73 σ) g 14 ls st h k s = (i_iinc 2 1 17) g (Rn (aLk T73 σ) g) ls st h k s := Rn.go mo73 rfl g ls st h k s
theorem r73_17 (σ : Nat → Value) (g : aG) (ls st : List Value) (h : aH) (k s : Nat) : Rn (aLk T73 σ) g 17 ls st h k s = (i_goto 5) g (Rn (aLk T73 σ) g) ls st h k s := Rn.go mo73 rfl g ls st h k s
theorem r73_20 (σ : Nat → Value) (g : aG) (ls st : List Value) (h : aH) (k s : Nat) : Rn (aLk T73 σ) g 20 ls st h k s = (i_ret) g (Rn (aLk T73 σ) g) ls st h k s := Rn.go mo73 rfl g ls st h k s
theorem r74_0 (σ : Nat → Value) (g : aG) (ls st : List Value) (h : aH) (k s : Nat) : Rn (aLk T74 σ) g 0 ls st h k s = (i_aload 0 1) g (Rn (aLk T74 σ) g) ls st h k s := Rn.go mo74 rfl g ls st h k s
theorem r74_1 (σ : Nat → Value) (g : aG) (ls st : List Value) (h : aH) (k s : Nat) : Rn (aLk T74 σ) g 1 ls st h k s = (i_oinit 4) g (Rn (aLk T74 σ) g) ls st h k s := Rn.go mo74 rfl g ls st h k s
theorem r74_4 (σ : Nat → Value) (g : aG) (ls st : List Value) (h : aH) (k s : Nat) : Rn (aLk T74 σ) g 4 ls st h k s = (i_aload 0 5) g (Rn (aLk T74 σ) g) ls st h k s := Rn.go mo74 rfl g ls st h k s
theorem r74_5 (σ : Nat → Value) (g : aG) (ls st : List Value) (h : aH) (k s : Nat) : Rn (aLk T74 σ) g 5 ls st h k s = (i_op (o_int 0) 6) g (Rn (aLk T74 σ) g) ls st h k s := Rn.go mo74 rfl g ls st h k s
theorem r74_6 (σ : Nat → Value) (g : aG) (ls st : List Value) (h : aH) (k s : Nat) : Rn (aLk T74 σ) g 6 ls st h k s = (i_putf 5 1 .int 9) g (Rn (aLk T74 σ) g) ls st h k s := Rn.go mo74 rfl g ls st h k s
theorem r74_9 (σ : Nat → Value) (g : aG) (ls st : List Value) (h : aH) (k s : Nat) : Rn (aLk T74 σ) g 9 ls st h k s = (i_aload 0 10) g (Rn (aLk T74 σ) g) ls st h k s := Rn.go mo74 rfl g ls st h k s
theorem r74_10 (σ : Nat → Value) (g : aG) (ls st : List Value) (h : aH) (k s : Nat) : Rn (aLk T74 σ) g 10 ls st h k s = (i_op (o_int 0) 11) g (Rn (aLk T74 σ) g) ls st h k s := Rn.go mo74 rfl g ls st h k s
theorem r74_11 (σ : Nat → Value) (g : aG) (ls st : List Value) (h : aH) (k s : Nat) : Rn (aLk T74 σ) g 11 ls st h k s = (i_putf 5 2 .boolean 14) g (Rn (aLk T74 σ) g) ls st h k s := Rn.go mo74 rfl g ls st h k s
theorem r74_14 (σ : Nat → Value) (g : aG) (ls st : List Value) (h : aH) (k s : Nat) : Rn (aLk T74 σ) g 14 ls st h k s = (i_aload 0 15) g (Rn (aLk T74 σ) g) ls st h k s := Rn.go mo74 rfl g ls st h k s
theorem r74_15 (σ : Nat → Value) (g : aG) (ls st : List Value) (h : aH) (k s : Nat) : Rn (aLk T74 σ) g 15 ls st h k s = (i_op (o_int 64) 17) g (Rn (aLk T74 σ) g) ls st h k s := Rn.go mo74 rfl g ls st h k s
theorem r74_17 (σ : Nat → Value) (g : aG) (ls st : List Value) (h : aH) (k s : Nat) : Rn (aLk T74 σ) g 17 ls st h k s = (i_callV [(5, 80)] 1 [] 20) g (Rn (aLk T74 σ) g) ls st h k s := Rn.go mo74 rfl g ls st h k s
theorem r74_20 (σ : Nat → Value) (g : aG) (ls st : List Value) (h : aH) (k s : Nat) : Rn (aLk T74 σ) g 20 ls st h k s = (i_aload 0 21) g (Rn (aLk T74 σ) g) ls st h k s := Rn.go mo74 rfl g ls st h k s
theorem r74_21 (σ : Nat → Value) (g : aG) (ls st : List Value) (h : aH) (k s : Nat) : Rn (aLk T74 σ) g 21 ls st h k s = (i_op (o_int 0) 22) g (Rn (aLk T74 σ) g) ls st h k s := Rn.go mo74 rfl g ls st h k s
theorem r74_22 (σ : Nat → Value) (g : aG) (ls st : List Value) (h : aH) (k s : Nat) : Rn (aLk T74 σ) g 22 ls st h k s = (i_putf 5 2 .boolean 25) g (Rn (aLk T74 σ) g) ls st h k s := Rn.go mo74 rfl g ls st h k s
theorem r74_25 (σ : Nat → Value) (g : aG) (ls st : List Value) (h : aH) (k s : Nat) : Rn (aLk T74 σ) g 25 ls st h k s = (i_ret) g (Rn (aLk T74 σ) g) ls st h k s := Rn.go mo74 rfl g ls st h k s
theorem r75_0 (σ : Nat → Value) (g : aG) (ls st : List Value) (h : aH) (k s : Nat) : Rn (aLk T75 σ) g 0 ls st h k s = (i_push (.int 1) 3) g (Rn (aLk T75 σ) g) ls st h k s := Rn.go mo75 rfl g ls st h k s
theorem r75_3 (σ : Nat → Value) (g : aG) (ls st : List Value) (h : aH) (k s : Nat) : Rn (aLk T75 σ) g 3 ls st h k s = (i_ifne 37 6) g (Rn (aLk T75 σ) g) ls st h k s := Rn.go mo75 rfl g ls st h k s
theorem r75_6 (σ : Nat → Value) (g : aG) (ls st : List Value) (h : aH) (k s : Nat) : Rn (aLk T75 σ) g 6 ls st h k s = (i_aload 0 7) g (Rn (aLk T75 σ) g) ls st h k s := Rn.go mo75 rfl g ls st h k s
theorem r75_7 (σ : Nat → Value) (g : aG) (ls st : List Value) (h : aH) (k s : Nat) : Rn (aLk T75 σ) g 7 ls st h k s = (i_getf 5 1 10) g (Rn (aLk T75 σ) g) ls st h k s := Rn.go mo75 rfl g ls st h k s
theorem r75_10 (σ : Nat → Value) (g : aG) (ls st : List Value) (h : aH) (k s : Nat) : Rn (aLk T75 σ) g 10 ls st h k s = (i_ifeq 37 13) g (Rn (aLk T75 σ) g) ls st h k s := Rn.go mo75 rfl g ls st h k s
theorem r75_13 (σ : Nat → Value) (g : aG) (ls st : List Value) (h : aH) (k s : Nat) : Rn (aLk T75 σ) g 13 ls st h k s = (i_aload 0 14) g (Rn (aLk T75 σ) g) ls st h k s := Rn.go mo75 rfl g ls st h k s
theorem r75_14 (σ : Nat → Value) (g : aG) (ls st : List Value) (h : aH) (k s : Nat) : Rn (aLk T75 σ) g 14 ls st h k s = (i_getf 5 0 17) g (Rn (aLk T75 σ) g) ls st h k s := Rn.go mo75 rfl g ls st h k s
theorem r75_17 (σ : Nat → Value) (g : aG) (ls st : List Value) (h : aH) (k s : Nat) : Rn (aLk T75 σ) g 17 ls st h k s = (i_aload 0 18) g (Rn (aLk T75 σ) g) ls st h k s := Rn.go mo75 rfl g ls st h k s
theorem r75_18 (σ : Nat → Value) (g : aG) (ls st : List Value) (h : aH) (k s : Nat) : Rn (aLk T75 σ) g 18 ls st h k s = (i_getf 5 1 21) g (Rn (aLk T75 σ) g) ls st h k s := Rn.go mo75 rfl g ls st h k s
theorem r75_21 (σ : Nat → Value) (g : aG) (ls st : List Value) (h : aH) (k s : Nat) : Rn (aLk T75 σ) g 21 ls st h k s = (i_op (o_int 1) 22) g (Rn (aLk T75 σ) g) ls st h k s := Rn.go mo75 rfl g ls st h k s
theorem r75_22 (σ : Nat → Value) (g : aG) (ls st : List Value) (h : aH) (k s : Nat) : Rn (aLk T75 σ) g 22 ls st h k s = (i_op o_isub 23) g (Rn (aLk T75 σ) g) ls st h k s := Rn.go mo75 rfl g ls st h k s
theorem r75_23 (σ : Nat → Value) (g : aG) (ls st : List Value) (h : aH) (k s : Nat) : Rn (aLk T75 σ) g 23 ls st h k s = (i_lald 2 24) g (Rn (aLk T75 σ) g) ls st h k s := Rn.go mo75 rfl g ls st h k s
theorem r75_24 (σ : Nat → Value) (g : aG) (ls st : List Value) (h : aH) (k s : Nat) : Rn (aLk T75 σ) g 24 ls st h k s = (i_op (o_long 0) 25) g (Rn (aLk T75 σ) g) ls st h k s := Rn.go mo75 rfl g ls st h k s
theorem r75_25 (σ : Nat → Value) (g : aG) (ls st : List Value) (h : aH) (k s : Nat) : Rn (aLk T75 σ) g 25 ls st h k s = (i_op o_lcmp 26) g (Rn (aLk T75 σ) g) ls st h k s := Rn.go mo75 rfl g ls st h k s
theorem r75_26 (σ : Nat → Value) (g : aG) (ls st : List Value) (h : aH) (k s : Nat) : Rn (aLk T75 σ) g 26 ls st h k s = (i_ifne 37 29) g (Rn (aLk T75 σ) g) ls st h k s := Rn.go mo75 rfl g ls st h k s
theorem r75_32 (σ : Nat → Value) (g : aG) (ls st : List Value) (h : aH) (k s : Nat) : Rn (aLk T75 σ) g 32 ls st h k s = (i_op o_dup 33) g (Rn (aLk T75 σ) g) ls st h k s := Rn.go mo75 rfl g ls st h k s
theorem r75_37 (σ : Nat → Value) (g : aG) (ls st : List Value) (h : aH) (k s : Nat) : Rn (aLk T75 σ) g 37 ls st h k s = (i_push (.int 1) 40) g (Rn (aLk T75 σ) g) ls st h k s := Rn.go mo75 rfl g ls st h k s
theorem r75_40 (σ : Nat → Value) (g : aG) (ls st : List Value) (h : aH) (k s : Nat) : Rn (aLk T75 σ) g 40 ls st h k s = (i_ifne 70 43) g (Rn (aLk T75 σ) g) ls st h k s := Rn.go mo75 rfl g ls st h k s
theorem r75_43 (σ : Nat → Value) (g : aG) (ls st : List Value) (h : aH) (k s : Nat) : Rn (aLk T75 σ) g 43 ls st h k s = (i_aload 0 44) g (Rn (aLk T75 σ) g) ls st h k s := Rn.go mo75 rfl g ls st h k s
theorem r75_44 (σ : Nat → Value) (g : aG) (ls st : List Value) (h : aH) (k s : Nat) : Rn (aLk T75 σ) g 44 ls st h k s = (i_getf 5 1 47) g (Rn (aLk T75 σ) g) ls st h k s := Rn.go mo75 rfl g ls st h k s
theorem r75_47 (σ : Nat → Value) (g : aG) (ls st : List Value) (h : aH) (k s : Nat) : Rn (aLk T75 σ) g 47 ls st h k s = (i_iflt 62 50) g (Rn (aLk T75 σ) g) ls st h k s := Rn.go mo75 rfl g ls st h k s
theorem r75_50 (σ : Nat → Value) (g : aG) (ls st : List Value) (h : aH) (k s : Nat) : Rn (aLk T75 σ) g 50 ls st h k s = (i_aload 0 51) g (Rn (aLk T75 σ) g) ls st h k s := Rn.go mo75 rfl g ls st h k s
theorem r75_51 (σ : Nat → Value) (g : aG) (ls st : List Value) (h : aH) (k s : Nat) : Rn (aLk T75 σ) g 51 ls st h k s = (i_getf 5 1 54) g (Rn (aLk T75 σ) g) ls st h k s := Rn.go mo75 rfl g ls st h k s
theorem r75_54 (σ : Nat → Value) (g : aG) (ls st : List Value) (h : aH) (k s : Nat) : Rn (aLk T75 σ) g 54 ls st h k s = (i_aload 0 55) g (Rn (aLk T75 σ) g) ls st h k s := Rn.go mo75 rfl g ls st h k s
theorem r75_55 (σ : Nat → Value) (g : aG) (ls st : List Value) (h : aH) (k s : Nat) : Rn (aLk T75 σ) g 55 ls st h k s = (i_getf 5 0 58) g (Rn (aLk T75 σ) g) ls st h k s := Rn.go mo75 rfl g ls st h k s
theorem r75_58 (σ : Nat → Value) (g : aG) (ls st : List Value) (h : aH) (k s : Nat) : Rn (aLk T75 σ) g 58 ls st h k s = (i_alen 59) g (Rn (aLk T75 σ) g) ls st h k s := Rn.go mo75 rfl g ls st h k s
theorem r75_59 (σ : Nat → Value) (g : aG) (ls st : List Value) (h : aH) (k s : Nat) : Rn (aLk T75 σ) g 59 ls st h k s = (i_cle 70 62) g (Rn (aLk T75 σ) g) ls st h k s := Rn.go mo75 rfl g ls st h k s
theorem r75_65 (σ : Nat → Value) (g : aG) (ls st : List Value) (h : aH) (k s : Nat) : Rn (aLk T75 σ) g 65 ls st h k s = (i_op o_dup 66) g (Rn (aLk T75 σ) g) ls st h k s := Rn.go mo75 rfl g ls st h k s
theorem r75_70 (σ : Nat → Value) (g : aG) (ls st : List Value) (h : aH) (k s : Nat) : Rn (aLk T75 σ) g 70 ls st h k s = (i_push (.int 1) 73) g (Rn (aLk T75 σ) g) ls st h k s := Rn.go mo75 rfl g ls st h k s
theorem r75_73 (σ : Nat → Value) (g : aG) (ls st : List Value) (h : aH) (k s : Nat) : Rn (aLk T75 σ) g 73 ls st h k s = (i_ifne 110 76) g (Rn (aLk T75 σ) g) ls st h k s := Rn.go mo75 rfl g ls st h k s
theorem r75_76 (σ : Nat → Value) (g : aG) (ls st : List Value) (h : aH) (k s : Nat) : Rn (aLk T75 σ) g 76 ls st h k s = (i_aload 0 77) g (Rn (aLk T75 σ) g) ls st h k s := Rn.go mo75 rfl g ls st h k s
theorem r75_77 (σ : Nat → Value) (g : aG) (ls st : List Value) (h : aH) (k s : Nat) : Rn (aLk T75 σ) g 77 ls st h k s = (i_getf 5 1 80) g (Rn (aLk T75 σ) g) ls st h k s := Rn.go mo75 rfl g ls st h k s
theorem r75_80 (σ : Nat → Value) (g : aG) (ls st : List Value) (h : aH) (k s : Nat) : Rn (aLk T75 σ) g 80 ls st h k s = (i_aload 0 81) g (Rn (aLk T75 σ) g) ls st h k s := Rn.go mo75 rfl g ls st h k s
theorem r75_81 (σ : Nat → Value) (g : aG) (ls st : List Value) (h : aH) (k s : Nat) : Rn (aLk T75 σ) g 81 ls st h k s = (i_getf 5 0 84) g (Rn (aLk T75 σ) g) ls st h k s := Rn.go mo75 rfl g ls st h k s
theorem r75_84 (σ : Nat → Value) (g : aG) (ls st : List Value) (h : aH) (k s : Nat) : Rn (aLk T75 σ) g 84 ls st h k s = (i_alen 85) g (Rn (aLk T75 σ) g) ls st h k s := Rn.go mo75 rfl g ls st h k s
theorem r75_85 (σ : Nat → Value) (g : aG) (ls st : List Value) (h : aH) (k s : Nat) : Rn (aLk T75 σ) g 85 ls st h k s = (i_ceq 110 88) g (Rn (aLk T75 σ) g) ls st h k s := Rn.go mo75 rfl g ls st h k s
theorem r75_88 (σ : Nat → Value) (g : aG) (ls st : List Value) (h : aH) (k s : Nat) : Rn (aLk T75 σ) g 88 ls st h k s = (i_aload 0 89) g (Rn (aLk T75 σ) g) ls st h k s := Rn.go mo75 rfl g ls st h k s
theorem r75_89 (σ : Nat → Value) (g : aG) (ls st : List Value) (h : aH) (k s : Nat) : Rn (aLk T75 σ) g 89 ls st h k s = (i_getf 5 0 92) g (Rn (aLk T75 σ) g) ls st h k s := Rn.go mo75 rfl g ls st h k s
theorem r75_92 (σ : Nat → Value) (g : aG) (ls st : List Value) (h : aH) (k s : Nat) : Rn (aLk T75 σ) g 92 ls st h k s = (i_aload 0 93) g (Rn (aLk T75 σ) g) ls st h k s := Rn.go mo75 rfl g ls st h k s
theorem r75_93 (σ : Nat → Value) (g : aG) (ls st : List Value) (h : aH) (k s : Nat) : Rn (aLk T75 σ) g 93 ls st h k s = (i_getf 5 1 96) g (Rn (aLk T75 σ) g) ls st h k s := Rn.go mo75 rfl g ls st h k s
theorem r75_96 (σ : Nat → Value) (g : aG) (ls st : List Value) (h : aH) (k s : Nat) : Rn (aLk T75 σ) g 96 ls st h k s = (i_lald 2 97) g (Rn (aLk T75 σ) g) ls st h k s := Rn.go mo75 rfl g ls st h k s
theorem r75_97 (σ : Nat → Value) (g : aG) (ls st : List Value) (h : aH) (k s : Nat) : Rn (aLk T75 σ) g 97 ls st h k s = (i_op (o_long 0) 98) g (Rn (aLk T75 σ) g) ls st h k s := Rn.go mo75 rfl g ls st h k s
theorem r75_98 (σ : Nat → Value) (g : aG) (ls st : List Value) (h : aH) (k s : Nat) : Rn (aLk T75 σ) g 98 ls st h k s = (i_op o_lcmp 99) g (Rn (aLk T75 σ) g) ls st h k s := Rn.go mo75 rfl g ls st h k s
theorem r75_99 (σ : Nat → Value) (g : aG) (ls st : List Value) (h : aH) (k s : Nat) : Rn (aLk T75 σ) g 99 ls st h k s = (i_ifeq 110 102) g (Rn (aLk T75 σ) g) ls st h k s := Rn.go mo75 rfl g ls st h k s
theorem r75_105 (σ : Nat → Value) (g : aG) (ls st : List Value) (h : aH) (k s : Nat) : Rn (aLk T75 σ) g 105 ls st h k s = (i_op o_dup 106) g (Rn (aLk T75 σ) g) ls st h k s := Rn.go mo75 rfl g ls st h k s
theorem r75_110 (σ : Nat → Value) (g : aG) (ls st : List Value) (h : aH) (k s : Nat) : Rn (aLk T75 σ) g 110 ls st h k s = (i_ret) g (Rn (aLk T75 σ) g) ls st h k s := Rn.go mo75 rfl g ls st h k s
theorem r76_0 (σ : Nat → Value) (g : aG) (ls st : List Value) (h : aH) (k s : Nat) : Rn (aLk T76 σ) g 0 ls st h k s = (i_aload 0 1) g (Rn (aLk T76 σ) g) ls st h k s := Rn.go mo76 rfl g ls st h k s
theorem r76_1 (σ : Nat → Value) (g : aG) (ls st : List Value) (h : aH) (k s : Nat) : Rn (aLk T76 σ) g 1 ls st h k s = (i_getf 5 0 4) g (Rn (aLk T76 σ) g) ls st h k s := Rn.go mo76 rfl g ls st h k s
theorem r76_4 (σ : Nat → Value) (g : aG) (ls st : List Value) (h : aH) (k s : Nat) : Rn (aLk T76 σ) g 4 ls st h k s = (i_alen 5) g (Rn (aLk T76 σ) g) ls st h k s := Rn.go mo76 rfl g ls st h k s
theorem r76_5 (σ : Nat → Value) (g : aG) (ls st : List Value) (h : aH) (k s : Nat) : Rn (aLk T76 σ) g 5 ls st h k s = (i_iload 1 6) g (Rn (aLk T76 σ) g) ls st h k s := Rn.go mo76 rfl g ls st h k s
theorem r76_6 (σ : Nat → Value) (g : aG) (ls st : List Value) (h : aH) (k s : Nat) : Rn (aLk T76 σ) g 6 ls st h k s = (i_cge 38 9) g (Rn (aLk T76 σ) g) ls st h k s := Rn.go mo76 rfl g ls st h k s
theorem r76_9 (σ : Nat → Value) (g : aG) (ls st : List Value) (h : aH) (k s : Nat) : Rn (aLk T76 σ) g 9 ls st h k s = (i_op (o_int 2) 10) g (Rn (aLk T76 σ) g) ls st h k s := Rn.go mo76 rfl g ls st h k s
theorem r76_10 (σ : Nat → Value) (g : aG) (ls st : List Value) (h : aH) (k s : Nat) : Rn (aLk T76 σ) g 10 ls st h k s = (i_aload 0 11) g (Rn (aLk T76 σ) g) ls st h k s := Rn.go mo76 rfl g ls st h k s
theorem r76_11 (σ : Nat → Value) (g : aG) (ls st : List Value) (h : aH) (k s : Nat) : Rn (aLk T76 σ) g 11 ls st h k s = (i_getf 5 0 14) g (Rn (aLk T76 σ) g) ls st h k s := Rn.go mo76 rfl g ls st h k s
theorem r76_14 (σ : Nat → Value) (g : aG) (ls st : List Value) (h : aH) (k s : Nat) : Rn (aLk T76 σ) g 14 ls st h k s = (i_alen 15) g (Rn (aLk T76 σ) g) ls st h k s := Rn.go mo76 rfl g ls st h k s
theorem r76_15 (σ : Nat → Value) (g : aG) (ls st : List Value) (h : aH) (k s : Nat) : Rn (aLk T76 σ) g 15 ls st h k s = (i_op o_imul 16) g (Rn (aLk T76 σ) g) ls st h k s := Rn.go mo76 rfl g ls st h k s
theorem r76_16 (σ : Nat → Value) (g : aG) (ls st : List Value) (h : aH) (k s : Nat) : Rn (aLk T76 σ) g 16 ls st h k s = (i_iload 1 17) g (Rn (aLk T76 σ) g) ls st h k s := Rn.go mo76 rfl g ls st h k s
theorem r76_17 (σ : Nat → Value) (g : aG) (ls st : List Value) (h : aH) (k s : Nat) : Rn (aLk T76 σ) g 17 ls st h k s = (i_mmax 20) g (Rn (aLk T76 σ) g) ls st h k s := Rn.go mo76 rfl g ls st h k s
theorem r76_20 (σ : Nat → Value) (g : aG) (ls st : List Value) (h : aH) (k s : Nat) : Rn (aLk T76 σ) g 20 ls st h k s = (i_istore 2 21) g (Rn (aLk T76 σ) g) ls st h k s := Rn.go mo76 rfl g ls st h k s
theorem r76_21 (σ : Nat → Value) (g : aG) (ls st : List Value) (h : aH) (k s : Nat) : Rn (aLk T76 σ) g 21 ls st h k s = (i_aload 0 22) g (Rn (aLk T76 σ) g) ls st h k s := Rn.go mo76 rfl g ls st h k s
theorem r76_22 (σ : Nat → Value) (g : aG) (ls st : List Value) (h : aH) (k s : Nat) : Rn (aLk T76 σ) g 22 ls st h k s = (i_aload 0 23) g (Rn (aLk T76 σ) g) ls st h k s := Rn.go mo76 rfl g ls st h k s
theorem r76_23 (σ : Nat → Value) (g : aG) (ls st : List Value) (h : aH) (k s : Nat) : Rn (aLk T76 σ) g 23 ls st h k s = (i_getf 5 0 26) g (Rn (aLk T76 σ) g) ls st h k s := Rn.go mo76 rfl g ls st h k s
theorem r76_26 (σ : Nat → Value) (g : aG) (ls st : List Value) (h : aH) (k s : Nat) : Rn (aLk T76 σ) g 26 ls st h k s = (i_iload 2 27) g (Rn (aLk T76 σ) g) ls st h k s := Rn.go mo76 rfl g ls st h k s
theorem r76_27 (σ : Nat → Value) (g : aG) (ls st : List Value) (h : aH) (k s : Nat) : Rn (aLk T76 σ) g 27 ls st h k s = (i_callS 69 2 [] 30) g (Rn (aLk T76 σ) g) ls st h k s := Rn.go mo76 rfl g ls st h k s
theorem r76_30 (σ : Nat → Value) (g : aG) (ls st : List Value) (h : aH) (k s : Nat) : Rn (aLk T76 σ) g 30 ls st h k s = (i_putf 5 0 (.array .long) 33) g (Rn (aLk T76 σ) g) ls st h k s := Rn.go mo76 rfl g ls st h k s
theorem r76_33 (σ : Nat → Value) (g : aG) (ls st : List Value) (h : aH) (k s : Nat) : Rn (aLk T76 σ) g 33 ls st h k s = (i_aload 0 34) g (Rn (aLk T76 σ) g) ls st h k s := Rn.go mo76 rfl g ls st h k s
theorem r76_34 (σ : Nat → Value) (g : aG) (ls st : List Value) (h : aH) (k s : Nat) : Rn (aLk T76 σ) g 34 ls st h k s = (i_op (o_int 0) 35) g (Rn (aLk T76 σ) g) ls st h k s := Rn.go mo76 rfl g ls st h k s
theorem r76_35 (σ : Nat → Value) (g : aG) (ls st : List Value) (h : aH) (k s : Nat) : Rn (aLk T76 σ) g 35 ls st h k s = (i_putf 5 2 .boolean 38) g (Rn (aLk T76 σ) g) ls st h k s := Rn.go mo76 rfl g ls st h k s
theorem r76_38 (σ : Nat → Value) (g : aG) (ls st : List Value) (h : aH) (k s : Nat) : Rn (aLk T76 σ) g 38 ls st h k s = (i_ret) g (Rn (aLk T76 σ) g) ls st h k s := Rn.go mo76 rfl g ls st h k s
theorem r77_0 (σ : Nat → Value) (g : aG) (ls st : List Value) (h : aH) (k s : Nat) : Rn (aLk T77 σ) g 0 ls st h k s = (i_iload 1 1) g (Rn (aLk T77 σ) g) ls st h k s := Rn.go mo77 rfl g ls st h k s
theorem r77_1 (σ : Nat → Value) (g : aG) (ls st : List Value) (h : aH) (k s : Nat) : Rn (aLk T77 σ) g 1 ls st h k s = (i_op (o_int 1) 2) g (Rn (aLk T77 σ) g) ls st h k s := Rn.go mo77 rfl g ls st h k s
theorem r77_2 (σ : Nat → Value) (g : aG) (ls st : List Value) (h : aH) (k s : Nat) : Rn (aLk T77 σ) g 2 ls st h k s = (i_op o_iadd 3) g (Rn (aLk T77 σ) g) ls st h k s := Rn.go mo77 rfl g ls st h k s
theorem r77_3 (σ : Nat → Value) (g : aG) (ls st : List Value) (h : aH) (k s : Nat) : Rn (aLk T77 σ) g 3 ls st h k s = (i_istore 2 4) g (Rn (aLk T77 σ) g) ls st h k s := Rn.go mo77 rfl g ls st h k s
theorem r77_4 (σ : Nat → Value) (g : aG) (ls st : List Value) (h : aH) (k s : Nat) : Rn (aLk T77 σ) g 4 ls st h k s = (i_aload 0 5) g (Rn (aLk T77 σ) g) ls st h k s := Rn.go mo77 rfl g ls st h k s
theorem r77_5 (σ : Nat → Value) (g : aG) (ls st : List Value) (h : aH) (k s : Nat) : Rn (aLk T77 σ) g 5 ls st h k s = (i_getf 5 1 8) g (Rn (aLk T77 σ) g) ls st h k s := Rn.go mo77 rfl g ls st h k s
theorem r77_8 (σ : Nat → Value) (g : aG) (ls st : List Value) (h : aH) (k s : Nat) : Rn (aLk T77 σ) g 8 ls st h k s = (i_iload 2 9) g (Rn (aLk T77 σ) g) ls st h k s := Rn.go mo77 rfl g ls st h k s
theorem r77_9 (σ : Nat → Value) (g : aG) (ls st : List Value) (h : aH) (k s : Nat) : Rn (aLk T77 σ) g 9 ls st h k s = (i_cge 22 12) g (Rn (aLk T77 σ) g) ls st h k s := Rn.go mo77 rfl g ls st h k s
theorem r77_12 (σ : Nat → Value) (g : aG) (ls st : List Value) (h : aH) (k s : Nat) : Rn (aLk T77 σ) g 12 ls st h k s = (i_aload 0 13) g (Rn (aLk T77 σ) g) ls st h k s := Rn.go mo77 rfl g ls st h k s
theorem r77_13 (σ : Nat → Value) (g : aG) (ls st : List Value) (h : aH) (k s : Nat) : Rn (aLk T77 σ) g 13 ls st h k s = (i_iload 2 14) g (Rn (aLk T77 σ) g) ls st h k s := Rn.go mo77 rfl g ls st h k s
theorem r77_14 (σ : Nat → Value) (g : aG) (ls st : List Value) (h : aH) (k s : Nat) : Rn (aLk T77 σ) g 14 ls st h k s = (i_callV [(5, 76)] 1 [] 17) g (Rn (aLk T77 σ) g) ls st h k s := Rn.go mo77 rfl g ls st h k s
theorem r77_17 (σ : Nat → Value) (g : aG) (ls st : List Value) (h : aH) (k s : Nat) : Rn (aLk T77 σ) g 17 ls st h k s = (i_aload 0 18) g (Rn (aLk T77 σ) g) ls st h k s := Rn.go mo77 rfl g ls st h k s
theorem r77_18 (σ : Nat → Value) (g : aG) (ls st : List Value) (h : aH) (k s : Nat) : Rn (aLk T77 σ) g 18 ls st h k s = (i_iload 2 19) g (Rn (aLk T77 σ) g) ls st h k s := Rn.go mo77 rfl g ls st h k s
theorem r77_19 (σ : Nat → Value) (g : aG) (ls st : List Value) (h : aH) (k s : Nat) : Rn (aLk T77 σ) g 19 ls st h k s = (i_putf 5 1 .int 22) g (Rn (aLk T77 σ) g) ls st h k s := Rn.go mo77 rfl g ls st h k s
theorem r77_22 (σ : Nat → Value) (g : aG) (ls st : List Value) (h : aH) (k s : Nat) : Rn (aLk T77 σ) g 22 ls st h k s = (i_ret) g (Rn (aLk T77 σ) g) ls st h k s := Rn.go mo77 rfl g ls st h k s
theorem r78_0 (σ : Nat → Value) (g : aG) (ls st : List Value) (h : aH) (k s : Nat) : Rn (aLk T78 σ) g 0 ls st h k s = (i_iload 1 1) g (Rn (aLk T78 σ) g) ls st h k s := Rn.go mo78 rfl g ls st h k s
theorem r78_1 (σ : Nat → Value) (g : aG) (ls st : List Value) (h : aH) (k s : Nat) : Rn (aLk T78 σ) g 1 ls st h k s = (i_ifge 31 4) g (Rn (aLk T78 σ) g) ls st h k s := Rn.go mo78 rfl g ls st h k s
theorem r78_7 (σ : Nat → Value) (g : aG) (ls st : List Value) (h : aH) (k s : Nat) : Rn (aLk T78 σ) g 7 ls st h k s = (i_op o_dup 8) g (Rn (aLk T78 σ) g) ls st h k s := Rn.go mo78 rfl g ls st h k s
theorem r78_11 (σ : Nat → Value) (g : aG) (ls st : List Value) (h : aH) (k s : Nat) : Rn (aLk T78 σ) g 11 ls st h k s = (i_op o_dup 12) g (Rn (aLk T78 σ) g) ls st h k s := Rn.go mo78 rfl g ls st h k s
theorem r78_20 (σ : Nat → Value) (g : aG) (ls st : List Value) (h : aH) (k s : Nat) : Rn (aLk T78 σ) g 20 ls st h k s = (i_iload 1 21) g (Rn (aLk T78 σ) g) ls st h k s := Rn.go mo78 rfl g ls st h k s
theorem r78_31 (σ : Nat → Value) (g : aG) (ls st : List Value) (h : aH) (k s : Nat) : Rn (aLk T78 σ) g 31 ls st h k s = (i_iload 1 32) g (Rn (aLk T78 σ) g) ls st h k s := Rn.go mo78 rfl g ls st h k s
theorem r78_32 (σ : Nat → Value) (g : aG) (ls st : List Value) (h : aH) (k s : Nat) : Rn (aLk T78 σ) g 32 ls st h k s = (i_callS 85 1 [] 35) g (Rn (aLk T78 σ) g) ls st h k s := Rn.go mo78 rfl g ls st h k s
theorem r78_35 (σ : Nat → Value) (g : aG) (ls st : List Value) (h : aH) (k s : Nat) : Rn (aLk T78 σ) g 35 ls st h k s = (i_istore 2 36) g (Rn (aLk T78 σ) g) ls st h k s := Rn.go mo78 rfl g ls st h k s
theorem r78_36 (σ : Nat → Value) (g : aG) (ls st : List Value) (h : aH) (k s : Nat) : Rn (aLk T78 σ) g 36 ls st h k s = (i_aload 0 37) g (Rn (aLk T78 σ) g) ls st h k s := Rn.go mo78 rfl g ls st h k s
theorem r78_37 (σ : Nat → Value) (g : aG) (ls st : List Value) (h : aH) (k s : Nat) : Rn (aLk T78 σ) g 37 ls st h k s = (i_iload 2 38) g (Rn (aLk T78 σ) g) ls st h k s := Rn.go mo78 rfl g ls st h k s
theorem r78_38 (σ : Nat → Value) (g : aG) (ls st : List Value) (h : aH) (k s : Nat) : Rn (aLk T78 σ) g 38 ls st h k s = (i_callV [(5, 77)] 1 [] 41) g (Rn (aLk T78 σ) g) ls st h k s := Rn.go mo78 rfl g ls st h k s
theorem r78_41 (σ : Nat → Value) (g : aG) (ls st : List Value) (h : aH) (k s : Nat) : Rn (aLk T78 σ) g 41 ls st h k s = (i_aload 0 42) g (Rn (aLk T78 σ) g) ls st h k s := Rn.go mo78 rfl g ls st h k s
theorem r78_42 (σ : Nat → Value) (g : aG) (ls st : List Value) (h : aH) (k s : Nat) : Rn (aLk T78 σ) g 42 ls st h k s = (i_getf 5 0 45) g (Rn (aLk T78 σ) g) ls st h k s := Rn.go mo78 rfl g ls st h k s
theorem r78_45 (σ : Nat → Value) (g : aG) (ls st : List Value) (h : aH) (k s : Nat) : Rn (aLk T78 σ) g 45 ls st h k s = (i_iload 2 46) g (Rn (aLk T78 σ) g) ls st h k s := Rn.go mo78 rfl g ls st h k s
theorem r78_46 (σ : Nat → Value) (g : aG) (ls st : List Value) (h : aH) (k s : Nat) : Rn (aLk T78 σ) g 46 ls st h k s = (i_op o_dup2 47) g (Rn (aLk T78 σ) g) ls st h k s := Rn.go mo78 rfl g ls st h k s
theorem r78_47 (σ : Nat → Value) (g : aG) (ls st : List Value) (h : aH) (k s : Nat) : Rn (aLk T78 σ) g 47 ls st h k s = (i_lald 2 48) g (Rn (aLk T78 σ) g) ls st h k s := Rn.go mo78 rfl g ls st h k s
theorem r78_48 (σ : Nat → Value) (g : aG) (ls st : List Value) (h : aH) (k s : Nat) : Rn (aLk T78 σ) g 48 ls st h k s = (i_op (o_long 1) 49) g (Rn (aLk T78 σ) g) ls st h k s := Rn.go mo78 rfl g ls st h k s
theorem r78_49 (σ : Nat → Value) (g : aG) (ls st : List Value) (h : aH) (k s : Nat) : Rn (aLk T78 σ) g 49 ls st h k s = (i_iload 1 50) g (Rn (aLk T78 σ) g) ls st h k s := Rn.go mo78 rfl g ls st h k s
theorem r78_50 (σ : Nat → Value) (g : aG) (ls st : List Value) (h : aH) (k s : Nat) : Rn (aLk T78 σ) g 50 ls st h k s = (i_op o_lshl 51) g (Rn (aLk T78 σ) g) ls st h k s := Rn.go mo78 rfl g ls st h k s
theorem r78_51 (σ : Nat → Value) (g : aG) (ls st : List Value) (h : aH) (k s : Nat) : Rn (aLk T78 σ) g 51 ls st h k s = (i_op o_lxor 52) g (Rn (aLk T78 σ) g) ls st h k s := Rn.go mo78 rfl g ls st h k s
theorem r78_52 (σ : Nat → Value) (g : aG) (ls st : List Value) (h : aH) (k s : Nat) : Rn (aLk T78 σ) g 52 ls st h k s = (i_last 2 53) g (Rn (aLk T78 σ) g) ls st h k s := Rn.go mo78 rfl g ls st h k s
theorem r78_53 (σ : Nat → Value) (g : aG) (ls st : List Value) (h : aH) (k s : Nat) : Rn (aLk T78 σ) g 53 ls st h k s = (i_aload 0 54) g (Rn (aLk T78 σ) g) ls st h k s := Rn.go mo78 rfl g ls st h k s
theorem r78_54 (σ : Nat → Value) (g : aG) (ls st : List Value) (h : aH) (k s : Nat) : Rn (aLk T78 σ) g 54 ls st h k s = (i_callV [(5, 83)] 0 [] 57) g (Rn (aLk T78 σ) g) ls st h k s := Rn.go mo78 rfl g ls st h k s
theorem r78_57 (σ : Nat → Value) (g : aG) (ls st : List Value) (h : aH) (k s : Nat) : Rn (aLk T78 σ) g 57 ls st h k s = (i_aload 0 58) g (Rn (aLk T78 σ) g) ls st h k s := Rn.go mo78 rfl g ls st h k s
theorem r78_58 (σ : Nat → Value) (g : aG) (ls st : List Value) (h : aH) (k s : Nat) : Rn (aLk T78 σ) g 58 ls st h k s = (i_callV [(5, 75)] 0 [] 61) g (Rn (aLk T78 σ) g) ls st h k s := Rn.go mo78 rfl g ls st h k s
theorem r78_61 (σ : Nat → Value) (g : aG) (ls st : List Value) (h : aH) (k s : Nat) : Rn (aLk T78 σ) g 61 ls st h k s = (i_ret) g (Rn (aLk T78 σ) g) ls st h k s := Rn.go mo78 rfl g ls st h k s
theorem r79_0 (σ : Nat → Value) (g : aG) (ls st : List Value) (h : aH) (k s : Nat) : Rn (aLk T79 σ) g 0 ls st h k s = (i_iload 1 1) g (Rn (aLk T79 σ) g) ls st h k s := Rn.go mo79 rfl g ls st h k s
theorem r79_1 (σ : Nat → Value) (g : aG) (ls st : List Value) (h : aH) (k s : Nat) : Rn (aLk T79 σ) g 1 ls st h k s = (i_ifge 31 4) g (Rn (aLk T79 σ) g) ls st h k s := Rn.go mo79 rfl g ls st h k s
theorem r79_7 (σ : Nat → Value) (g : aG) (ls st : List Value) (h : aH) (k s : Nat) : Rn (aLk T79 σ) g 7 ls st h k s = (i_op o_dup 8) g (Rn (aLk T79 σ) g) ls st h k s := Rn.go mo79 rfl g ls st h k s
theorem r79_11 (σ : Nat → Value) (g : aG) (ls st : List Value) (h : aH) (k s : Nat) : Rn (aLk T79 σ) g 11 ls st h k s = (i_op o_dup 12) g (Rn (aLk T79 σ) g) ls st h k s := Rn.go mo79 rfl g ls st h k s
theorem r79_20 (σ : Nat → Value) (g : aG) (ls st : List Value) (h : aH) (k s : Nat) : Rn (aLk T79 σ) g 20 ls st h k s = (i_iload 1 21) g (Rn (aLk T79 σ) g) ls st h k s := Rn.go mo79 rfl g ls st h k s
theorem r79_31 (σ : Nat → Value) (g : aG) (ls st : List Value) (h : aH) (k s : Nat) : Rn (aLk T79 σ) g 31 ls st h k s = (i_aload 0 32) g (Rn (aLk T79 σ) g) ls st h k s := Rn.go mo79 rfl g ls st h k s
theorem r79_32 (σ : Nat → Value) (g : aG) (ls st : List Value) (h : aH) (k s : Nat) : Rn (aLk T79 σ) g 32 ls st h k s = (i_callV [(5, 75)] 0 [] 35) g (Rn (aLk T79 σ) g) ls st h k s := Rn.go mo79 rfl g ls st h k s
theorem r79_35 (σ : Nat → Value) (g : aG) (ls st : List Value) (h : aH) (k s : Nat) : Rn (aLk T79 σ) g 35 ls st h k s = (i_iload 1 36) g (Rn (aLk T79 σ) g) ls st h k s := Rn.go mo79 rfl g ls st h k s
theorem r79_36 (σ : Nat → Value) (g : aG) (ls st : List Value) (h : aH) (k s : Nat) : Rn (aLk T79 σ) g 36 ls st h k s = (i_callS 85 1 [] 39) g (Rn (aLk T79 σ) g) ls st h k s := Rn.go mo79 rfl g ls st h k s
theorem r79_39 (σ : Nat → Value) (g : aG) (ls st : List Value) (h : aH) (k s : Nat) : Rn (aLk T79 σ) g 39 ls st h k s = (i_istore 2 40) g (Rn (aLk T79 σ) g) ls st h k s := Rn.go mo79 rfl g ls st h k s
theorem r79_40 (σ : Nat → Value) (g : aG) (ls st : List Value) (h : aH) (k s : Nat) : Rn (aLk T79 σ) g 40 ls st h k s = (i_iload 2 41) g (Rn (aLk T79 σ) g) ls st h k s := Rn.go mo79 rfl g ls st h k s
theorem r79_41 (σ : Nat → Value) (g : aG) (ls st : List Value) (h : aH) (k s : Nat) : Rn (aLk T79 σ) g 41 ls st h k s = (i_aload 0 42) g (Rn (aLk T79 σ) g) ls st h k s := Rn.go mo79 rfl g ls st h k s
theorem r79_42 (σ : Nat → Value) (g : aG) (ls st : List Value) (h : aH) (k s : Nat) : Rn (aLk T79 σ) g 42 ls st h k s = (i_getf 5 1 45) g (Rn (aLk T79 σ) g) ls st h k s := Rn.go mo79 rfl g ls st h k s
theorem r79_45 (σ : Nat → Value) (g : aG) (ls st : List Value) (h : aH) (k s : Nat) : Rn (aLk T79 σ) g 45 ls st h k s = (i_cge 67 48) g (Rn (aLk T79 σ) g) ls st h k s := Rn.go mo79 rfl g ls st h k s
theorem r79_48 (σ : Nat → Value) (g : aG) (ls st : List Value) (h : aH) (k s : Nat) : Rn (aLk T79 σ) g 48 ls st h k s = (i_aload 0 49) g (Rn (aLk T79 σ) g) ls st h k s := Rn.go mo79 rfl g ls st h k s
theorem r79_49 (σ : Nat → Value) (g : aG) (ls st : List Value) (h : aH) (k s : Nat) : Rn (aLk T79 σ) g 49 ls st h k s = (i_getf 5 0 52) g (Rn (aLk T79 σ) g) ls st h k s := Rn.go mo79 rfl g ls st h k s
theorem r79_52 (σ : Nat → Value) (g : aG) (ls st : List Value) (h : aH) (k s : Nat) : Rn (aLk T79 σ) g 52 ls st h k s = (i_iload 2 53) g (Rn (aLk T79 σ) g) ls st h k s := Rn.go mo79 rfl g ls st h k s
theorem r79_53 (σ : Nat → Value) (g : aG) (ls st : List Value) (h : aH) (k s : Nat) : Rn (aLk T79 σ) g 53 ls st h k s = (i_lald 2 54) g (Rn (aLk T79 σ) g) ls st h k s := Rn.go mo79 rfl g ls st h k s
theorem r79_54 (σ : Nat → Value) (g : aG) (ls st : List Value) (h : aH) (k s : Nat) : Rn (aLk T79 σ) g 54 ls st h k s = (i_op (o_long 1) 55) g (Rn (aLk T79 σ) g) ls st h k s := Rn.go mo79 rfl g ls st h k s
theorem r79_55 (σ : Nat → Value) (g : aG) (ls st : List Value) (h : aH) (k s : Nat) : Rn (aLk T79 σ) g 55 ls st h k s = (i_iload 1 56) g (Rn (aLk T79 σ) g) ls st h k s := Rn.go mo79 rfl g ls st h k s
theorem r79_56 (σ : Nat → Value) (g : aG) (ls st : List Value) (h : aH) (k s : Nat) : Rn (aLk T79 σ) g 56 ls st h k s = (i_op o_lshl 57) g (Rn (aLk T79 σ) g) ls st h k s := Rn.go mo79 rfl g ls st h k s
theorem r79_57 (σ : Nat → Value) (g : aG) (ls st : List Value) (h : aH) (k s : Nat) : Rn (aLk T79 σ) g 57 ls st h k s = (i_op o_land 58) g (Rn (aLk T79 σ) g) ls st h k s := Rn.go mo79 rfl g ls st h k s
theorem r79_58 (σ : Nat → Value) (g : aG) (ls st : List Value) (h : aH) (k s : Nat) : Rn (aLk T79 σ) g 58 ls st h k s = (i_op (o_long 0) 59) g (Rn (aLk T79 σ) g) ls st h k s := Rn.go mo79 rfl g ls st h k s
theorem r79_59 (σ : Nat → Value) (g : aG) (ls st : List Value) (h : aH) (k s : Nat) : Rn (aLk T79 σ) g 59 ls st h k s = (i_op o_lcmp 60) g (Rn (aLk T79 σ) g) ls st h k s := Rn.go mo79 rfl g ls st h k s
theorem r79_60 (σ : Nat → Value) (g : aG) (ls st : List Value) (h : aH) (k s : Nat) : Rn (aLk T79 σ) g 60 ls st h k s = (i_ifeq 67 63) g (Rn (aLk T79 σ) g) ls st h k s := Rn.go mo79 rfl g ls st h k s
theorem r79_63 (σ : Nat → Value) (g : aG) (ls st : List Value) (h : aH) (k s : Nat) : Rn (aLk T79 σ) g 63 ls st h k s = (i_op (o_int 1) 64) g (Rn (aLk T79 σ) g) ls st h k s := Rn.go mo79 rfl g ls st h k s
theorem r79_64 (σ : Nat → Value) (g : aG) (ls st : List Value) (h : aH) (k s : Nat) : Rn (aLk T79 σ) g 64 ls st h k s = (i_goto 68) g (Rn (aLk T79 σ) g) ls st h k s := Rn.go mo79 rfl g ls st h k s
theorem r79_67 (σ : Nat → Value) (g : aG) (ls st : List Value) (h : aH) (k s : Nat) : Rn (aLk T79 σ) g 67 ls st h k s = (i_op (o_int 0) 68) g (Rn (aLk T79 σ) g) ls st h k s := Rn.go mo79 rfl g ls st h k s
theorem r79_68 (σ : Nat → Value) (g : aG) (ls st : List Value) (h : aH) (k s : Nat) : Rn (aLk T79 σ) g 68 ls st h k s = (i_iret .boolean) g (Rn (aLk T79 σ) g) ls st h k s := Rn.go mo79 rfl g ls st h k s
theorem r80_0 (σ : Nat → Value) (g : aG) (ls st : List Value) (h : aH) (k s : Nat) : Rn (aLk T80 σ) g 0 ls st h k s = (i_aload 0 1) g (Rn (aLk T80 σ) g) ls st h k s := Rn.go mo80 rfl g ls st h k s
theorem r80_1 (σ : Nat → Value) (g : aG) (ls st : List Value) (h : aH) (k s : Nat) : Rn (aLk T80 σ) g 1 ls st h k s = (i_iload 1 2) g (Rn (aLk T80 σ) g) ls st h k s := Rn.go mo80 rfl g ls st h k s
theorem r80_2 (σ : Nat → Value) (g : aG) (ls st : List Value) (h : aH) (k s : Nat) : Rn (aLk T80 σ) g 2 ls st h k s = (i_op (o_int 1) 3) g (Rn (aLk T80 σ) g) ls st h k s := Rn.go mo80 rfl g ls st h k s
theorem r80_3 (σ : Nat → Value) (g : aG) (ls st : List Value) (h : aH) (k s : Nat) : Rn (aLk T80 σ) g 3 ls st h k s = (i_op o_isub 4) g (Rn (aLk T80 σ) g) ls st h k s := Rn.go mo80 rfl g ls st h k s
theorem r80_4 (σ : Nat → Value) (g : aG) (ls st : List Value) (h : aH) (k s : Nat) : Rn (aLk T80 σ) g 4 ls st h k s = (i_callS 85 1 [] 7) g (Rn (aLk T80 σ) g) ls st h k s := Rn.go mo80 rfl g ls st h k s
theorem r80_7 (σ : Nat → Value) (g : aG) (ls st : List Value) (h : aH) (k s : Nat) : Rn (aLk T80 σ) g 7 ls st h k s = (i_op (o_int 1) 8) g (Rn (aLk T80 σ) g) ls st h k s := Rn.go mo80 rfl g ls st h k s
theorem r80_8 (σ : Nat → Value) (g : aG) (ls st : List Value) (h : aH) (k s : Nat) : Rn (aLk T80 σ) g 8 ls st h k s = (i_op o_iadd 9) g (Rn (aLk T80 σ) g) ls st h k s := Rn.go mo80 rfl g ls st h k s
theorem r80_9 (σ : Nat → Value) (g : aG) (ls st : List Value) (h : aH) (k s : Nat) : Rn (aLk T80 σ) g 9 ls st h k s = (i_newa 2 (.inr (.inl fun _ => 0)) 8 11) g (Rn (aLk T80 σ) g) ls st h k s := Rn.go mo80 rfl g ls st h k s
theorem r80_11 (σ : Nat → Value) (g : aG) (ls st : List Value) (h : aH) (k s : Nat) : Rn (aLk T80 σ) g 11 ls st h k s = (i_putf 5 0 (.array .long) 14) g (Rn (aLk T80 σ) g) ls st h k s := Rn.go mo80 rfl g ls st h k s
theorem r80_14 (σ : Nat → Value) (g : aG) (ls st : List Value) (h : aH) (k s : Nat) : Rn (aLk T80 σ) g 14 ls st h k s = (i_ret) g (Rn (aLk T80 σ) g) ls st h k s := Rn.go mo80 rfl g ls st h k s
theorem r81_0 (σ : Nat → Value) (g : aG) (ls st : List Value) (h : aH) (k s : Nat) : Rn (aLk T81 σ) g 0 ls st h k s = (i_aload 0 1) g (Rn (aLk T81 σ) g) ls st h k s := Rn.go mo81 rfl g ls st h k s
theorem r81_1 (σ : Nat → Value) (g : aG) (ls st : List Value) (h : aH) (k s : Nat) : Rn (aLk T81 σ) g 1 ls st h k s = (i_getf 5 1 4) g (Rn (aLk T81 σ) g) ls st h k s := Rn.go mo81 rfl g ls st h k s
theorem r81_4 (σ : Nat → Value) (g : aG) (ls st : List Value) (h : aH) (k s : Nat) : Rn (aLk T81 σ) g 4 ls st h k s = (i_ifne 11 7) g (Rn (aLk T81 σ) g) ls st h k s := Rn.go mo81 rfl g ls st h k s
theorem r81_7 (σ : Nat → Value) (g : aG) (ls st : List Value) (h : aH) (k s : Nat) : Rn (aLk T81 σ) g 7 ls st h k s = (i_op (o_int 1) 8) g (Rn (aLk T81 σ) g) ls st h k s := Rn.go mo81 rfl g ls st h k s
theorem r81_8 (σ : Nat → Value) (g : aG) (ls st : List Value) (h : aH) (k s : Nat) : Rn (aLk T81 σ) g 8 ls st h k s = (i_goto 12) g (Rn (aLk T81 σ) g) ls st h k s := Rn.go mo81 rfl g ls st h k s
theorem r81_11 (σ : Nat → Value) (g : aG) (ls st : List Value) (h : aH) (k s : Nat) : Rn (aLk T81 σ) g 11 ls st h k s = (i_op (o_int 0) 12) g (Rn (aLk T81 σ) g) ls st h k s := Rn.go mo81 rfl g ls st h k s
theorem r81_12 (σ : Nat → Value) (g : aG) (ls st : List Value) (h : aH) (k s : Nat) : Rn (aLk T81 σ) g 12 ls st h k s = (i_iret .boolean) g (Rn (aLk T81 σ) g) ls st h k s := Rn.go mo81 rfl g ls st h k s
theorem r82_0 (σ : Nat → Value) (g : aG) (ls st : List Value) (h : aH) (k s : Nat) : Rn (aLk T82 σ) g 0 ls st h k s = (i_aload 0 1) g (Rn (aLk T82 σ) g) ls st h k s := Rn.go mo82 rfl g ls st h k s
theorem r82_1 (σ : Nat → Value) (g : aG) (ls st : List Value) (h : aH) (k s : Nat) : Rn (aLk T82 σ) g 1 ls st h k s = (i_aload 1 2) g (Rn (aLk T82 σ) g) ls st h k s := Rn.go mo82 rfl g ls st h k s
theorem r82_2 (σ : Nat → Value) (g : aG) (ls st : List Value) (h : aH) (k s : Nat) : Rn (aLk T82 σ) g 2 ls st h k s = (i_ane 6 5) g (Rn (aLk T82 σ) g) ls st h k s := Rn.go mo82 rfl g ls st h k s
theorem r82_5 (σ : Nat → Value) (g : aG) (ls st : List Value) (h : aH) (k s : Nat) : Rn (aLk T82 σ) g 5 ls st h k s = (i_ret) g (Rn (aLk T82 σ) g) ls st h k s := Rn.go mo82 rfl g ls st h k s
theorem r82_6 (σ : Nat → Value) (g : aG) (ls st : List Value) (h : aH) (k s : Nat) : Rn (aLk T82 σ) g 6 ls st h k s = (i_aload 0 7) g (Rn (aLk T82 σ) g) ls st h k s := Rn.go mo82 rfl g ls st h k s
theorem r82_7 (σ : Nat → Value) (g : aG) (ls st : List Value) (h : aH) (k s : Nat) : Rn (aLk T82 σ) g 7 ls st h k s = (i_getf 5 1 10) g (Rn (aLk T82 σ) g) ls st h k s := Rn.go mo82 rfl g ls st h k s
theorem r82_10 (σ : Nat → Value) (g : aG) (ls st : List Value) (h : aH) (k s : Nat) : Rn (aLk T82 σ) g 10 ls st h k s = (i_aload 1 11) g (Rn (aLk T82 σ) g) ls st h k s := Rn.go mo82 rfl g ls st h k s
theorem r82_11 (σ : Nat → Value) (g : aG) (ls st : List Value) (h : aH) (k s : Nat) : Rn (aLk T82 σ) g 11 ls st h k s = (i_getf 5 1 14) g (Rn (aLk T82 σ) g) ls st h k s := Rn.go mo82 rfl g ls st h k s
theorem r82_14 (σ : Nat → Value) (g : aG) (ls st : List Value) (h : aH) (k s : Nat) : Rn (aLk T82 σ) g 14 ls st h k s = (i_mmin 17) g (Rn (aLk T82 σ) g) ls st h k s := Rn.go mo82 rfl g ls st h k s
theorem r82_17 (σ : Nat → Value) (g : aG) (ls st : List Value) (h : aH) (k s : Nat) : Rn (aLk T82 σ) g 17 ls st h k s = (i_istore 2 18) g (Rn (aLk T82 σ) g) ls st h k s := Rn.go mo82 rfl g ls st h k s
theorem r82_18 (σ : Nat → Value) (g : aG) (ls st : List Value) (h : aH) (k s : Nat) : Rn (aLk T82 σ) g 18 ls st h k s = (i_aload 0 19) g (Rn (aLk T82 σ) g) ls st h k s := Rn.go mo82 rfl g ls st h k s
theorem r82_19 (σ : Nat → Value) (g : aG) (ls st : List Value) (h : aH) (k s : Nat) : Rn (aLk T82 σ) g 19 ls st h k s = (i_getf 5 1 22) g (Rn (aLk T82 σ) g) ls st h k s := Rn.go mo82 rfl g ls st h k s
theorem r82_22 (σ : Nat → Value) (g : aG) (ls st : List Value) (h : aH) (k s : Nat) : Rn (aLk T82 σ) g 22 ls st h k s = (i_aload 1 23) g (Rn (aLk T82 σ) g) ls st h k s := Rn.go mo82 rfl g ls st h k s
theorem r82_23 (σ : Nat → Value) (g : aG) (ls st : List Value) (h : aH) (k s : Nat) : Rn (aLk T82 σ) g 23 ls st h k s = (i_getf 5 1 26) g (Rn (aLk T82 σ) g) ls st h k s := Rn.go mo82 rfl g ls st h k s
theorem r82_26 (σ : Nat → Value) (g : aG) (ls st : List Value) (h : aH) (k s : Nat) : Rn (aLk T82 σ) g 26 ls st h k s = (i_cge 45 29) g (Rn (aLk T82 σ) g) ls st h k s := Rn.go mo82 rfl g ls st h k s
theorem r82_29 (σ : Nat → Value) (g : aG) (ls st : List Value) (h : aH) (k s : Nat) : Rn (aLk T82 σ) g 29 ls st h k s = (i_aload 0 30) g (Rn (aLk T82 σ) g) ls st h k s := Rn.go mo82 rfl g ls st h k s
theorem r82_30 (σ : Nat → Value) (g : aG) (ls st : List Value) (h : aH) (k s : Nat) : Rn (aLk T82 σ) g 30 ls st h k s = (i_aload 1 31) g (Rn (aLk T82 σ) g) ls st h k s := Rn.go mo82 rfl g ls st h k s
theorem r82_31 (σ : Nat → Value) (g : aG) (ls st : List Value) (h : aH) (k s : Nat) : Rn (aLk T82 σ) g 31 ls st h k s = (i_getf 5 1 34) g (Rn (aLk T82 σ) g) ls st h k s := Rn.go mo82 rfl g ls st h k s
theorem r82_34 (σ : Nat → Value) (g : aG) (ls st : List Value) (h : aH) (k s : Nat) : Rn (aLk T82 σ) g 34 ls st h k s = (i_callV [(5, 76)] 1 [] 37) g (Rn (aLk T82 σ) g) ls st h k s := Rn.go mo82 rfl g ls st h k s
theorem r82_37 (σ : Nat → Value) (g : aG) (ls st : List Value) (h : aH) (k s : Nat) : Rn (aLk T82 σ) g 37 ls st h k s = (i_aload 0 38) g (Rn (aLk T82 σ) g) ls st h k s := Rn.go mo82 rfl g ls st h k s
theorem r82_38 (σ : Nat → Value) (g : aG) (ls st : List Value) (h : aH) (k s : Nat) : Rn (aLk T82 σ) g 38 ls st h k s = (i_aload 1 39) g (Rn (aLk T82 σ) g) ls st h k s := Rn.go mo82 rfl g ls st h k s
theorem r82_39 (σ : Nat → Value) (g : aG) (ls st : List Value) (h : aH) (k s : Nat) : Rn (aLk T82 σ) g 39 ls st h k s = (i_getf 5 1 42) g (Rn (aLk T82 σ) g) ls st h k s := Rn.go mo82 rfl g ls st h k s
theorem r82_42 (σ : Nat → Value) (g : aG) (ls st : List Value) (h : aH) (k s : Nat) : Rn (aLk T82 σ) g 42 ls st h k s = (i_putf 5 1 .int 45) g (Rn (aLk T82 σ) g) ls st h k s := Rn.go mo82 rfl g ls st h k s
theorem r82_45 (σ : Nat → Value) (g : aG) (ls st : List Value) (h : aH) (k s : Nat) : Rn (aLk T82 σ) g 45 ls st h k s = (i_op (o_int 0) 46) g (Rn (aLk T82 σ) g) ls st h k s := Rn.go mo82 rfl g ls st h k s
theorem r82_46 (σ : Nat → Value) (g : aG) (ls st : List Value) (h : aH) (k s : Nat) : Rn (aLk T82 σ) g 46 ls st h k s = (i_istore 3 47) g (Rn (aLk T82 σ) g) ls st h k s := Rn.go mo82 rfl g ls st h k s
theorem r82_47 (σ : Nat → Value) (g : aG) (ls st : List Value) (h : aH) (k s : Nat) : Rn (aLk T82 σ) g 47 ls st h k s = (i_iload 3 48) g (Rn (aLk T82 σ) g) ls st h k s := Rn.go mo82 rfl g ls st h k s
theorem r82_48 (σ : Nat → Value) (g : aG) (ls st : List Value) (h : aH) (k s : Nat) : Rn (aLk T82 σ) g 48 ls st h k s = (i_iload 2 49) g (Rn (aLk T82 σ) g) ls st h k s := Rn.go mo82 rfl g ls st h k s
theorem r82_49 (σ : Nat → Value) (g : aG) (ls st : List Value) (h : aH) (k s : Nat) : Rn (aLk T82 σ) g 49 ls st h k s = (i_cge 73 52) g (Rn (aLk T82 σ) g) ls st h k s := Rn.go mo82 rfl g ls st h k s
theorem r82_52 (σ : Nat → Value) (g : aG) (ls st : List Value) (h : aH) (k s : Nat) : Rn (aLk T82 σ) g 52 ls st h k s = (i_aload 0 53) g (Rn (aLk T82 σ) g) ls st h k s := Rn.go mo82 rfl g ls st h k s
theorem r82_53 (σ : Nat → Value) (g : aG) (ls st : List Value) (h : aH) (k s : Nat) : Rn (aLk T82 σ) g 53 ls st h k s = (i_getf 5 0 56) g (Rn (aLk T82 σ) g) ls st h k s := Rn.go mo82 rfl g ls st h k s
theorem r82_56 (σ : Nat → Value) (g : aG) (ls st : List Value) (h : aH) (k s : Nat) : Rn (aLk T82 σ) g 56 ls st h k s = (i_iload 3 57) g (Rn (aLk T82 σ) g) ls st h k s := Rn.go mo82 rfl g ls st h k s
theorem r82_57 (σ : Nat → Value) (g : aG) (ls st : List Value) (h : aH) (k s : Nat) : Rn (aLk T82 σ) g 57 ls st h k s = (i_op o_dup2 58) g (Rn (aLk T82 σ) g) ls st h k s := Rn.go mo82 rfl g ls st h k s
theorem r82_58 (σ : Nat → Value) (g : aG) (ls st : List Value) (h : aH) (k s : Nat) : Rn (aLk T82 σ) g 58 ls st h k s = (i_lald 2 59) g (Rn (aLk T82 σ) g) ls st h k s := Rn.go mo82 rfl g ls st h k s
theorem r82_59 (σ : Nat → Value) (g : aG) (ls st : List Value) (h : aH) (k s : Nat) : Rn (aLk T82 σ) g 59 ls st h k s = (i_aload 1 60) g (Rn (aLk T82 σ) g) ls st h k s := Rn.go mo82 rfl g ls st h k s
theorem r82_60 (σ : Nat → Value) (g : aG) (ls st : List Value) (h : aH) (k s : Nat) : Rn (aLk T82 σ) g 60 ls st h k s = (i_getf 5 0 63) g (Rn (aLk T82 σ) g) ls st h k s := Rn.go mo82 rfl g ls st h k s
theorem r82_63 (σ : Nat → Value) (g : aG) (ls st : List Value) (h : aH) (k s : Nat) : Rn (aLk T82 σ) g 63 ls st h k s = (i_iload 3 64) g (Rn (aLk T82 σ) g) ls st h k s := Rn.go mo82 rfl g ls st h k s
theorem r82_64 (σ : Nat → Value) (g : aG) (ls st : List Value) (h : aH) (k s : Nat) : Rn (aLk T82 σ) g 64 ls st h k s = (i_lald 2 65) g (Rn (aLk T82 σ) g) ls st h k s := Rn.go mo82 rfl g ls st h k s
theorem r82_65 (σ : Nat → Value) (g : aG) (ls st : List Value) (h : aH) (k s : Nat) : Rn (aLk T82 σ) g 65 ls st h k s = (i_op o_lor 66) g (Rn (aLk T82 σ) g) ls st h k s := Rn.go mo82 rfl g ls st h k s
theorem r82_66 (σ : Nat → Value) (g : aG) (ls st : List Value) (h : aH) (k s : Nat) : Rn (aLk T82 σ) g 66 ls st h k s = (i_last 2 67) g (Rn (aLk T82 σ) g) ls st h k s := Rn.go mo82 rfl g ls st h k s
theorem r82_67 (σ : Nat → Value) (g : aG) (ls st : List Value) (h : aH) (k s : Nat) : Rn (aLk T82 σ) g 67 ls st h k s = (i_iinc 3 1 70) g (Rn (aLk T82 σ) g) ls st h k s := Rn.go mo82 rfl g ls st h k s
theorem r82_70 (σ : Nat → Value) (g : aG) (ls st : List Value) (h : aH) (k s : Nat) : Rn (aLk T82 σ) g 70 ls st h k s = (i_goto 47) g (Rn (aLk T82 σ) g) ls st h k s := Rn.go mo82 rfl g ls st h k s
theorem r82_73 (σ : Nat → Value) (g : aG) (ls st : List Value) (h : aH) (k s : Nat) : Rn (aLk T82 σ) g 73 ls st h k s = (i_iload 2 74) g (Rn (aLk T82 σ) g) ls st h k s := Rn.go mo82 rfl g ls st h k s
theorem r82_74 (σ : Nat → Value) (g : aG) (ls st : List Value) (h : aH) (k s : Nat) : Rn (aLk T82 σ) g 74 ls st h k s = (i_aload 1 75) g (Rn (aLk T82 σ) g) ls st h k s := Rn.go mo82 rfl g ls st h k s
theorem r82_75 (σ : Nat → Value) (g : aG) (ls st : List Value) (h : aH) (k s : Nat) : Rn (aLk T82 σ) g 75 ls st h k s = (i_getf 5 1 78) g (Rn (aLk T82 σ) g) ls st h k s := Rn.go mo82 rfl g ls st h k s
theorem r82_78 (σ : Nat → Value) (g : aG) (ls st : List Value) (h : aH) (k s : Nat) : Rn (aLk T82 σ) g 78 ls st h k s = (i_cge 100 81) g (Rn (aLk T82 σ) g) ls st h k s := Rn.go mo82 rfl g ls st h k s
theorem r82_81 (σ : Nat → Value) (g : aG) (ls st : List Value) (h : aH) (k s : Nat) : Rn (aLk T82 σ) g 81 ls st h k s = (i_aload 1 82) g (Rn (aLk T82 σ) g) ls st h k s := Rn.go mo82 rfl g ls st h k s
theorem r82_82 (σ : Nat → Value) (g : aG) (ls st : List Value) (h : aH) (k s : Nat) : Rn (aLk T82 σ) g 82 ls st h k s = (i_getf 5 0 85) g (Rn (aLk T82 σ) g) ls st h k s := Rn.go mo82 rfl g ls st h k s
theorem r82_85 (σ : Nat → Value) (g : aG) (ls st : List Value) (h : aH) (k s : Nat) : Rn (aLk T82 σ) g 85 ls st h k s = (i_iload 2 86) g (Rn (aLk T82 σ) g) ls st h k s := Rn.go mo82 rfl g ls st h k s
theorem r82_86 (σ : Nat → Value) (g : aG) (ls st : List Value) (h : aH) (k s : Nat) : Rn (aLk T82 σ) g 86 ls st h k s = (i_aload 0 87) g (Rn (aLk T82 σ) g) ls st h k s := Rn.go mo82 rfl g ls st h k s
theorem r82_87 (σ : Nat → Value) (g : aG) (ls st : List Value) (h : aH) (k s : Nat) : Rn (aLk T82 σ) g 87 ls st h k s = (i_getf 5 0 90) g (Rn (aLk T82 σ) g) ls st h k s := Rn.go mo82 rfl g ls st h k s
theorem r82_90 (σ : Nat → Value) (g : aG) (ls st : List Value) (h : aH) (k s : Nat) : Rn (aLk T82 σ) g 90 ls st h k s = (i_iload 2 91) g (Rn (aLk T82 σ) g) ls st h k s := Rn.go mo82 rfl g ls st h k s
theorem r82_91 (σ : Nat → Value) (g : aG) (ls st : List Value) (h : aH) (k s : Nat) : Rn (aLk T82 σ) g 91 ls st h k s = (i_aload 0 92) g (Rn (aLk T82 σ) g) ls st h k s := Rn.go mo82 rfl g ls st h k s
theorem r82_92 (σ : Nat → Value) (g : aG) (ls st : List Value) (h : aH) (k s : Nat) : Rn (aLk T82 σ) g 92 ls st h k s = (i_getf 5 1 95) g (Rn (aLk T82 σ) g) ls st h k s := Rn.go mo82 rfl g ls st h k s
theorem r82_95 (σ : Nat → Value) (g : aG) (ls st : List Value) (h : aH) (k s : Nat) : Rn (aLk T82 σ) g 95 ls st h k s = (i_iload 2 96) g (Rn (aLk T82 σ) g) ls st h k s := Rn.go mo82 rfl g ls st h k s
theorem r82_96 (σ : Nat → Value) (g : aG) (ls st : List Value) (h : aH) (k s : Nat) : Rn (aLk T82 σ) g 96 ls st h k s = (i_op o_isub 97) g (Rn (aLk T82 σ) g) ls st h k s := Rn.go mo82 rfl g ls st h k s
theorem r82_97 (σ : Nat → Value) (g : aG) (ls st : List Value) (h : aH) (k s : Nat) : Rn (aLk T82 σ) g 97 ls st h k s = (i_acopy 100) g (Rn (aLk T82 σ) g) ls st h k s := Rn.go mo82 rfl g ls st h k s
theorem r82_100 (σ : Nat → Value) (g : aG) (ls st : List Value) (h : aH) (k s : Nat) : Rn (aLk T82 σ) g 100 ls st h k s = (i_aload 0 101) g (Rn (aLk T82 σ) g) ls st h k s := Rn.go mo82 rfl g ls st h k s
theorem r82_101 (σ : Nat → Value) (g : aG) (ls st : List Value) (h : aH) (k s : Nat) : Rn (aLk T82 σ) g 101 ls st h k s = (i_callV [(5, 75)] 0 [] 104) g (Rn (aLk T82 σ) g) ls st h k s := Rn.go mo82 rfl g ls st h k s
theorem r82_104 (σ : Nat → Value) (g : aG) (ls st : List Value) (h : aH) (k s : Nat) : Rn (aLk T82 σ) g 104 ls st h k s = (i_ret) g (Rn (aLk T82 σ) g) ls st h k s := Rn.go mo82 rfl g ls st h k s
theorem r83_0 (σ : Nat → Value) (g : aG) (ls st : List Value) (h : aH) (k s : Nat) : Rn (aLk T83 σ) g 0 ls st h k s = (i_aload 0 1) g (Rn (aLk T83 σ) g) ls st h k s := Rn.go mo83 rfl g ls st h k s
theorem r83_1 (σ : Nat → Value) (g : aG) (ls st : List Value) (h : aH) (k s : Nat) : Rn (aLk T83 σ) g 1 ls st h k s = (i_getf 5 1 4) g (Rn (aLk T83 σ) g) ls st h k s := Rn.go mo83 rfl g ls st h k s
theorem r83_4 (σ : Nat → Value) (g : aG) (ls st : List Value) (h : aH) (k s : Nat) : Rn (aLk T83 σ) g 4 ls st h k s = (i_op (o_int 1) 5) g (Rn (aLk T83 σ) g) ls st h k s := Rn.go mo83 rfl g ls st h k s
theorem r83_5 (σ : Nat → Value) (g : aG) (ls st : List Value) (h : aH) (k s : Nat) : Rn (aLk T83 σ) g 5 ls st h k s = (i_op o_isub 6) g (Rn (aLk T83 σ) g) ls st h k s := Rn.go mo83 rfl g ls st h k s
theorem r83_6 (σ : Nat → Value) (g : aG) (ls st : List Value) (h : aH) (k s : Nat) : Rn (aLk T83 σ) g 6 ls st h k s = (i_istore 1 7) g (Rn (aLk T83 σ) g) ls st h k s := Rn.go mo83 rfl g ls st h k s
theorem r83_7 (σ : Nat → Value) (g : aG) (ls st : List Value) (h : aH) (k s : Nat) : Rn (aLk T83 σ) g 7 ls st h k s = (i_iload 1 8) g (Rn (aLk T83 σ) g) ls st h k s := Rn.go mo83 rfl g ls st h k s
theorem r83_8 (σ : Nat → Value) (g : aG) (ls st : List Value) (h : aH) (k s : Nat) : Rn (aLk T83 σ) g 8 ls st h k s = (i_iflt 31 11) g (Rn (aLk T83 σ) g) ls st h k s := Rn.go mo83 rfl g ls st h k s
theorem r83_11 (σ : Nat → Value) (g : aG) (ls st : List Value) (h : aH) (k s : Nat) : Rn (aLk T83 σ) g 11 ls st h k s = (i_aload 0 12) g (Rn (aLk T83 σ) g) ls st h k s := Rn.go mo83 rfl g ls st h k s
theorem r83_12 (σ : Nat → Value) (g : aG) (ls st : List Value) (h : aH) (k s : Nat) : Rn (aLk T83 σ) g 12 ls st h k s = (i_getf 5 0 15) g (Rn (aLk T83 σ) g) ls st h k s := Rn.go mo83 rfl g ls st h k s
theorem r83_15 (σ : Nat → Value) (g : aG) (ls st : List Value) (h : aH) (k s : Nat) : Rn (aLk T83 σ) g 15 ls st h k s = (i_iload 1 16) g (Rn (aLk T83 σ) g) ls st h k s := Rn.go mo83 rfl g ls st h k s
theorem r83_16 (σ : Nat → Value) (g : aG) (ls st : List Value) (h : aH) (k s : Nat) : Rn (aLk T83 σ) g 16 ls st h k s = (i_lald 2 17) g (Rn (aLk T83 σ) g) ls st h k s := Rn.go mo83 rfl g ls st h k s
theorem r83_17 (σ : Nat → Value) (g : aG) (ls st : List Value) (h : aH) (k s : Nat) : Rn (aLk T83 σ) g 17 ls st h k s = (i_op (o_long 0) 18) g (Rn (aLk T83 σ) g) ls st h k s := Rn.go mo83 rfl g ls st h k s
theorem r83_18 (σ : Nat → Value) (g : aG) (ls st : List Value) (h : aH) (k s : Nat) : Rn (aLk T83 σ) g 18 ls st h k s = (i_op o_lcmp 19) g (Rn (aLk T83 σ) g) ls st h k s := Rn.go mo83 rfl g ls st h k s
theorem r83_19 (σ : Nat → Value) (g : aG) (ls st : List Value) (h : aH) (k s : Nat) : Rn (aLk T83 σ) g 19 ls st h k s = (i_ifeq 25 22) g (Rn (aLk T83 σ) g) ls st h k s := Rn.go mo83 rfl g ls st h k s
theorem r83_22 (σ : Nat → Value) (g : aG) (ls st : List Value) (h : aH) (k s : Nat) : Rn (aLk T83 σ) g 22 ls st h k s = (i_goto 31) g (Rn (aLk T83 σ) g) ls st h k s := Rn.go mo83 rfl g ls st h k s
theorem r83_25 (σ : Nat → Value) (g : aG) (ls st : List Value) (h : aH) (k s : Nat) : Rn (aLk T83 σ) g 25 ls st h k s = (i_iinc 1 (-1) 28) g (Rn (aLk T83 σ) g) ls st h k s := Rn.go mo83 rfl g ls st h k s
theorem r83_28 (σ : Nat → Value) (g : aG) (ls st : List Value) (h : aH) (k s : Nat) : Rn (aLk T83 σ) g 28 ls st h k s = (i_goto 7) g (Rn (aLk T83 σ) g) ls st h k s := Rn.go mo83 rfl g ls st h k s
theorem r83_31 (σ : Nat → Value) (g : aG) (ls st : List Value) (h : aH) (k s : Nat) : Rn (aLk T83 σ) g 31 ls st h k s = (i_aload 0 32) g (Rn (aLk T83 σ) g) ls st h k s := Rn.go mo83 rfl g ls st h k s
theorem r83_32 (σ : Nat → Value) (g : aG) (ls st : List Value) (h : aH) (k s : Nat) : Rn (aLk T83 σ) g 32 ls st h k s = (i_iload 1 33) g (Rn (aLk T83 σ) g) ls st h k s := Rn.go mo83 rfl g ls st h k s
theorem r83_33 (σ : Nat → Value) (g : aG) (ls st : List Value) (h : aH) (k s : Nat) : Rn (aLk T83 σ) g 33 ls st h k s = (i_op (o_int 1) 34) g (Rn (aLk T83 σ) g) ls st h k s := Rn.go mo83 rfl g ls st h k s
theorem r83_34 (σ : Nat → Value) (g : aG) (ls st : List Value) (h : aH) (k s : Nat) : Rn (aLk T83 σ) g 34 ls st h k s = (i_op o_iadd 35) g (Rn (aLk T83 σ) g) ls st h k s := Rn.go mo83 rfl g ls st h k s
theorem r83_35 (σ : Nat → Value) (g : aG) (ls st : List Value) (h : aH) (k s : Nat) : Rn (aLk T83 σ) g 35 ls st h k s = (i_putf 5 1 .int 38) g (Rn (aLk T83 σ) g) ls st h k s := Rn.go mo83 rfl g ls st h k s
theorem r83_38 (σ : Nat → Value) (g : aG) (ls st : List Value) (h : aH) (k s : Nat) : Rn (aLk T83 σ) g 38 ls st h k s = (i_ret) g (Rn (aLk T83 σ) g) ls st h k s := Rn.go mo83 rfl g ls st h k s
theorem r84_0 (σ : Nat → Value) (g : aG) (ls st : List Value) (h : aH) (k s : Nat) : Rn (aLk T84 σ) g 0 ls st h k s = (i_iload 1 1) g (Rn (aLk T84 σ) g) ls st h k s := Rn.go mo84 rfl g ls st h k s
theorem r84_1 (σ : Nat → Value) (g : aG) (ls st : List Value) (h : aH) (k s : Nat) : Rn (aLk T84 σ) g 1 ls st h k s = (i_ifge 31 4) g (Rn (aLk T84 σ) g) ls st h k s := Rn.go mo84 rfl g ls st h k s
theorem r84_7 (σ : Nat → Value) (g : aG) (ls st : List Value) (h : aH) (k s : Nat) : Rn (aLk T84 σ) g 7 ls st h k s = (i_op o_dup 8) g (Rn (aLk T84 σ) g) ls st h k s := Rn.go mo84 rfl g ls st h k s
theorem r84_11 (σ : Nat → Value) (g : aG) (ls st : List Value) (h : aH) (k s : Nat) : Rn (aLk T84 σ) g 11 ls st h k s = (i_op o_dup 12) g (Rn (aLk T84 σ) g) ls st h k s := Rn.go mo84 rfl g ls st h k s
theorem r84_20 (σ : Nat → Value) (g : aG) (ls st : List Value) (h : aH) (k s : Nat) : Rn (aLk T84 σ) g 20 ls st h k s = (i_iload 1 21) g (Rn (aLk T84 σ) g) ls st h k s := Rn.go mo84 rfl g ls st h k s
theorem r84_31 (σ : Nat → Value) (g : aG) (ls st : List Value) (h : aH) (k s : Nat) : Rn (aLk T84 σ) g 31 ls st h k s = (i_iload 1 32) g (Rn (aLk T84 σ) g) ls st h k s := Rn.go mo84 rfl g ls st h k s
theorem r84_32 (σ : Nat → Value) (g : aG) (ls st : List Value) (h : aH) (k s : Nat) : Rn (aLk T84 σ) g 32 ls st h k s = (i_callS 85 1 [] 35) g (Rn (aLk T84 σ) g) ls st h k s := Rn.go mo84 rfl g ls st h k s
theorem r84_35 (σ : Nat → Value) (g : aG) (ls st : List Value) (h : aH) (k s : Nat) : Rn (aLk T84 σ) g 35 ls st h k s = (i_istore 2 36) g (Rn (aLk T84 σ) g) ls st h k s := Rn.go mo84 rfl g ls st h k s
theorem r84_36 (σ : Nat → Value) (g : aG) (ls st : List Value) (h : aH) (k s : Nat) : Rn (aLk T84 σ) g 36 ls st h k s = (i_aload 0 37) g (Rn (aLk T84 σ) g) ls st h k s := Rn.go mo84 rfl g ls st h k s
theorem r84_37 (σ : Nat → Value) (g : aG) (ls st : List Value) (h : aH) (k s : Nat) : Rn (aLk T84 σ) g 37 ls st h k s = (i_iload 2 38) g (Rn (aLk T84 σ) g) ls st h k s := Rn.go mo84 rfl g ls st h k s
theorem r84_38 (σ : Nat → Value) (g : aG) (ls st : List Value) (h : aH) (k s : Nat) : Rn (aLk T84 σ) g 38 ls st h k s = (i_callV [(5, 77)] 1 [] 41) g (Rn (aLk T84 σ) g) ls st h k s := Rn.go mo84 rfl g ls st h k s
theorem r84_41 (σ : Nat → Value) (g : aG) (ls st : List Value) (h : aH) (k s : Nat) : Rn (aLk T84 σ) g 41 ls st h k s = (i_aload 0 42) g (Rn (aLk T84 σ) g) ls st h k s := Rn.go mo84 rfl g ls st h k s
theorem r84_42 (σ : Nat → Value) (g : aG) (ls st : List Value) (h : aH) (k s : Nat) : Rn (aLk T84 σ) g 42 ls st h k s = (i_getf 5 0 45) g (Rn (aLk T84 σ) g) ls st h k s := Rn.go mo84 rfl g ls st h k s
theorem r84_45 (σ : Nat → Value) (g : aG) (ls st : List Value) (h : aH) (k s : Nat) : Rn (aLk T84 σ) g 45 ls st h k s = (i_iload 2 46) g (Rn (aLk T84 σ) g) ls st h k s := Rn.go mo84 rfl g ls st h k s
theorem r84_46 (σ : Nat → Value) (g : aG) (ls st : List Value) (h : aH) (k s : Nat) : Rn (aLk T84 σ) g 46 ls st h k s = (i_op o_dup2 47) g (Rn (aLk T84 σ) g) ls st h k s := Rn.go mo84 rfl g ls st h k s
theorem r84_47 (σ : Nat → Value) (g : aG) (ls st : List Value) (h : aH) (k s : Nat) : Rn (aLk T84 σ) g 47 ls st h k s = (i_lald 2 48) g (Rn (aLk T84 σ) g) ls st h k s := Rn.go mo84 rfl g ls st h k s
theorem r84_48 (σ : Nat → Value) (g : aG) (ls st : List Value) (h : aH) (k s : Nat) : Rn (aLk T84 σ) g 48 ls st h k s = (i_op (o_long 1) 49) g (Rn (aLk T84 σ) g) ls st h k s := Rn.go mo84 rfl g ls st h k s
theorem r84_49 (σ : Nat → Value) (g : aG) (ls st : List Value) (h : aH) (k s : Nat) : Rn (aLk T84 σ) g 49 ls st h k s = (i_iload 1 50) g (Rn (aLk T84 σ) g) ls st h k s := Rn.go mo84 rfl g ls st h k s
theorem r84_50 (σ : Nat → Value) (g : aG) (ls st : List Value) (h : aH) (k s : Nat) : Rn (aLk T84 σ) g 50 ls st h k s = (i_op o_lshl 51) g (Rn (aLk T84 σ) g) ls st h k s := Rn.go mo84 rfl g ls st h k s
theorem r84_51 (σ : Nat → Value) (g : aG) (ls st : List Value) (h : aH) (k s : Nat) : Rn (aLk T84 σ) g 51 ls st h k s = (i_op o_lor 52) g (Rn (aLk T84 σ) g) ls st h k s := Rn.go mo84 rfl g ls st h k s
theorem r84_52 (σ : Nat → Value) (g : aG) (ls st : List Value) (h : aH) (k s : Nat) : Rn (aLk T84 σ) g 52 ls st h k s = (i_last 2 53) g (Rn (aLk T84 σ) g) ls st h k s := Rn.go mo84 rfl g ls st h k s
theorem r84_53 (σ : Nat → Value) (g : aG) (ls st : List Value) (h : aH) (k s : Nat) : Rn (aLk T84 σ) g 53 ls st h k s = (i_aload 0 54) g (Rn (aLk T84 σ) g) ls st h k s := Rn.go mo84 rfl g ls st h k s
theorem r84_54 (σ : Nat → Value) (g : aG) (ls st : List Value) (h : aH) (k s : Nat) : Rn (aLk T84 σ) g 54 ls st h k s = (i_callV [(5, 75)] 0 [] 57) g (Rn (aLk T84 σ) g) ls st h k s := Rn.go mo84 rfl g ls st h k s
theorem r84_57 (σ : Nat → Value) (g : aG) (ls st : List Value) (h : aH) (k s : Nat) : Rn (aLk T84 σ) g 57 ls st h k s = (i_ret) g (Rn (aLk T84 σ) g) ls st h k s := Rn.go mo84 rfl g ls st h k s
theorem r85_0 (σ : Nat → Value) (g : aG) (ls st : List Value) (h : aH) (k s : Nat) : Rn (aLk T85 σ) g 0 ls st h k s = (i_iload 0 1) g (Rn (aLk T85 σ) g) ls st h k s := Rn.go mo85 rfl g ls st h k s
theorem r85_1 (σ : Nat → Value) (g : aG) (ls st : List Value) (h : aH) (k s : Nat) : Rn (aLk T85 σ) g 1 ls st h k s = (i_op (o_int 6) 3) g (Rn (aLk T85 σ) g) ls st h k s := Rn.go mo85 rfl g ls st h k s
theorem r85_3 (σ : Nat → Value) (g : aG) (ls st : List Value) (h : aH) (k s : Nat) : Rn (aLk T85 σ) g 3 ls st h k s = (i_op o_ishr 4) g (Rn (aLk T85 σ) g) ls st h k s := Rn.go mo85 rfl g ls st h k s
theorem r85_4 (σ : Nat → Value) (g : aG) (ls st : List Value) (h : aH) (k s : Nat) : Rn (aLk T85 σ) g 4 ls st h k s = (i_iret .int) g (Rn (aLk T85 σ) g) ls st h k s := Rn.go mo85 rfl g ls st h k s
theorem r86_0 (σ : Nat → Value) (g : aG) (ls st : List Value) (h : aH) (k s : Nat) : Rn (aLk T86 σ) g 0 ls st h k s = (i_iload 0 1) g (Rn (aLk T86 σ) g) ls st h k s := Rn.go mo86 rfl g ls st h k s
theorem r86_1 (σ : Nat → Value) (g : aG) (ls st : List Value) (h : aH) (k s : Nat) : Rn (aLk T86 σ) g 1 ls st h k s = (i_iload 1 2) g (Rn (aLk T86 σ) g) ls st h k s := Rn.go mo86 rfl g ls st h k s
theorem r86_2 (σ : Nat → Value) (g : aG) (ls st : List Value) (h : aH) (k s : Nat) : Rn (aLk T86 σ) g 2 ls st h k s = (i_op o_null 3) g (Rn (aLk T86 σ) g) ls st h k s := Rn.go mo86 rfl g ls st h k s
theorem r86_3 (σ : Nat → Value) (g : aG) (ls st : List Value) (h : aH) (k s : Nat) : Rn (aLk T86 σ) g 3 ls st h k s = (i_callS 122 3 [] 6) g (Rn (aLk T86 σ) g) ls st h k s := Rn.go mo86 rfl g ls st h k s
theorem r86_6 (σ : Nat → Value) (g : aG) (ls st : List Value) (h : aH) (k s : Nat) : Rn (aLk T86 σ) g 6 ls st h k s = (i_iret .int) g (Rn (aLk T86 σ) g) ls st h k s := Rn.go mo86 rfl g ls st h k s
theorem r87_0 (σ : Nat → Value) (g : aG) (ls st : List Value) (h : aH) (k s : Nat) : Rn (aLk T87 σ) g 0 ls st h k s = (i_aload 0 1) g (Rn (aLk T87 σ) g) ls st h k s := Rn.go mo87 rfl g ls st h k s
theorem r87_1 (σ : Nat → Value) (g : aG) (ls st : List Value) (h : aH) (k s : Nat) : Rn (aLk T87 σ) g 1 ls st h k s = (i_nnull 12 4) g (Rn (aLk T87 σ) g) ls st h k s := Rn.go mo87 rfl g ls st h k s
theorem r87_7 (σ : Nat → Value) (g : aG) (ls st : List Value) (h : aH) (k s : Nat) : Rn (aLk T87 σ) g 7 ls st h k s = (i_op o_dup 8) g (Rn (aLk T87 σ) g) ls st h k s := Rn.go mo87 rfl g ls st h k s
theorem r87_12 (σ : Nat → Value) (g : aG) (ls st : List Value) (h : aH) (k s : Nat) : Rn (aLk T87 σ) g 12 ls st h k s = (i_aload 0 13) g (Rn (aLk T87 σ) g) ls st h k s := Rn.go mo87 rfl g ls st h k s
theorem r87_13 (σ : Nat → Value) (g : aG) (ls st : List Value) (h : aH) (k s : Nat) : Rn (aLk T87 σ) g 13 ls st h k s = (i_aret) g (Rn (aLk T87 σ) g) ls st h k s := Rn.go mo87 rfl g ls st h k s
theorem r88_0 (σ : Nat → Value) (g : aG) (ls st : List Value) (h : aH) (k s : Nat) : Rn (aLk T88 σ) g 0 ls st h k s = (i_aload 0 1) g (Rn (aLk T88 σ) g) ls st h k s := Rn.go mo88 rfl g ls st h k s
theorem r88_1 (σ : Nat → Value) (g : aG) (ls st : List Value) (h : aH) (k s : Nat) : Rn (aLk T88 σ) g 1 ls st h k s = (i_op (o_int 11) 3) g (Rn (aLk T88 σ) g) ls st h k s := Rn.go mo88 rfl g ls st h k s
theorem r88_3 (σ : Nat → Value) (g : aG) (ls st : List Value) (h : aH) (k s : Nat) : Rn (aLk T88 σ) g 3 ls st h k s = (i_op o_null 4) g (Rn (aLk T88 σ) g) ls st h k s := Rn.go mo88 rfl g ls st h k s
theorem r88_4 (σ : Nat → Value) (g : aG) (ls st : List Value) (h : aH) (k s : Nat) : Rn (aLk T88 σ) g 4 ls st h k s = (i_callI 89 2 [] 7) g (Rn (aLk T88 σ) g) ls st h k s := Rn.go mo88 rfl g ls st h k s
theorem r88_7 (σ : Nat → Value) (g : aG) (ls st : List Value) (h : aH) (k s : Nat) : Rn (aLk T88 σ) g 7 ls st h k s = (i_ret) g (Rn (aLk T88 σ) g) ls st h k s := Rn.go mo88 rfl g ls st h k s
theorem r89_0 (σ : Nat → Value) (g : aG) (ls st : List Value) (h : aH) (k s : Nat) : Rn (aLk T89 σ) g 0 ls st h k s = (i_aload 0 1) g (Rn (aLk T89 σ) g) ls st h k s := Rn.go mo89 rfl g ls st h k s
theorem r89_1 (σ : Nat → Value) (g : aG) (ls st : List Value) (h : aH) (k s : Nat) : Rn (aLk T89 σ) g 1 ls st h k s = (i_callI 28 0 [] 4) g (Rn (aLk T89 σ) g) ls st h k s := Rn.go mo89 rfl g ls st h k s
theorem r89_4 (σ : Nat → Value) (g : aG) (ls st : List Value) (h : aH) (k s : Nat) : Rn (aLk T89 σ) g 4 ls st h k s = (i_iload 1 5) g (Rn (aLk T89 σ) g) ls st h k s := Rn.go mo89 rfl g ls st h k s
theorem r89_5 (σ : Nat → Value) (g : aG) (ls st : List Value) (h : aH) (k s : Nat) : Rn (aLk T89 σ) g 5 ls st h k s = (i_op (o_int 1) 6) g (Rn (aLk T89 σ) g) ls st h k s := Rn.go mo89 rfl g ls st h k s
theorem r89_6 (σ : Nat → Value) (g : aG) (ls st : List Value) (h : aH) (k s : Nat) : Rn (aLk T89 σ) g 6 ls st h k s = (i_cge 17 9) g (Rn (aLk T89 σ) g) ls st h k s := Rn.go mo89 rfl g ls st h k s
theorem r89_12 (σ : Nat → Value) (g : aG) (ls st : List Value) (h : aH) (k s : Nat) : Rn (aLk T89 σ) g 12 ls st h k s = (i_op o_dup 13) g (Rn (aLk T89 σ) g) ls st h k s := Rn.go mo89 rfl g ls st h k s
theorem r89_17 (σ : Nat → Value) (g : aG) (ls st : List Value) (h : aH) (k s : Nat) : Rn (aLk T89 σ) g 17 ls st h k s = (i_aload 0 18) g (Rn (aLk T89 σ) g) ls st h k s := Rn.go mo89 rfl g ls st h k s
theorem r89_18 (σ : Nat → Value) (g : aG) (ls st : List Value) (h : aH) (k s : Nat) : Rn (aLk T89 σ) g 18 ls st h k s = (i_iload 1 19) g (Rn (aLk T89 σ) g) ls st h k s := Rn.go mo89 rfl g ls st h k s
theorem r89_19 (σ : Nat → Value) (g : aG) (ls st : List Value) (h : aH) (k s : Nat) : Rn (aLk T89 σ) g 19 ls st h k s = (i_newa 4 (.inr (.inr (.inr (.inr fun _ => none)))) 4 22) g (Rn (aLk T89 σ) g) ls st h k s := Rn.go mo89 rfl g ls st h k s
theorem r89_22 (σ : Nat → Value) (g : aG) (ls st : List Value) (h : aH) (k s : Nat) : Rn (aLk T89 σ) g 22 ls st h k s = (i_putf 6 0 (.array (.object "java/lang/Object")) 25) g (Rn (aLk T89 σ) g) ls st h k s := Rn.go mo89 rfl g ls st h k s
theorem r89_25 (σ : Nat → Value) (g : aG) (ls st : List Value) (h : aH) (k s : Nat) : Rn (aLk T89 σ) g 25 ls st h k s = (i_aload 0 26) g (Rn (aLk T89 σ) g) ls st h k s := Rn.go mo89 rfl g ls st h k s
theorem r89_26 (σ : Nat → Value) (g : aG) (ls st : List Value) (h : aH) (k s : Nat) : Rn (aLk T89 σ) g 26 ls st h k s = (i_aload 2 27) g (Rn (aLk T89 σ) g) ls st h k s := Rn.go mo89 rfl g ls st h k s
theorem r89_27 (σ : Nat → Value) (g : aG) (ls st : List Value) (h : aH) (k s : Nat) : Rn (aLk T89 σ) g 27 ls st h k s = (i_putf 6 2 (.object "java/util/Comparator") 30) g (Rn (aLk T89 σ) g) ls st h k s := Rn.go mo89 rfl g ls st h k s
theorem r89_30 (σ : Nat → Value) (g : aG) (ls st : List Value) (h : aH) (k s : Nat) : Rn (aLk T89 σ) g 30 ls st h k s = (i_ret) g (Rn (aLk T89 σ) g) ls st h k s := Rn.go mo89 rfl g ls st h k s
theorem r90_0 (σ : Nat → Value) (g : aG) (ls st : List Value) (h : aH) (k s : Nat) : Rn (aLk T90 σ) g 0 ls st h k s = (i_aload 0 1) g (Rn (aLk T90 σ) g) ls st h k s := Rn.go mo90 rfl g ls st h k s
theorem r90_1 (σ : Nat → Value) (g : aG) (ls st : List Value) (h : aH) (k s : Nat) : Rn (aLk T90 σ) g 1 ls st h k s = (i_getf 6 0 4) g (Rn (aLk T90 σ) g) ls st h k s := Rn.go mo90 rfl g ls st h k s
theorem r90_4 (σ : Nat → Value) (g : aG) (ls st : List Value) (h : aH) (k s : Nat) : Rn (aLk T90 σ) g 4 ls st h k s = (i_alen 5) g (Rn (aLk T90 σ) g) ls st h k s := Rn.go mo90 rfl g ls st h k s
theorem r90_5 (σ : Nat → Value) (g : aG) (ls st : List Value) (h : aH) (k s : Nat) : Rn (aLk T90 σ) g 5 ls st h k s = (i_istore 2 6) g (Rn (aLk T90 σ) g) ls st h k s := Rn.go mo90 rfl g ls st h k s
theorem r90_6 (σ : Nat → Value) (g : aG) (ls st : List Value) (h : aH) (k s : Nat) : Rn (aLk T90 σ) g 6 ls st h k s = (i_iload 2 7) g (Rn (aLk T90 σ) g) ls st h k s := Rn.go mo90 rfl g ls st h k s
theorem r90_7 (σ : Nat → Value) (g : aG) (ls st : List Value) (h : aH) (k s : Nat) : Rn (aLk T90 σ) g 7 ls st h k s = (i_iload 1 8) g (Rn (aLk T90 σ) g) ls st h k s := Rn.go mo90 rfl g ls st h k s
theorem r90_8 (σ : Nat → Value) (g : aG) (ls st : List Value) (h : aH) (k s : Nat) : Rn (aLk T90 σ) g 8 ls st h k s = (i_iload 2 9) g (Rn (aLk T90 σ) g) ls st h k s := Rn.go mo90 rfl g ls st h k s
theorem r90_9 (σ : Nat → Value) (g : aG) (ls st : List Value) (h : aH) (k s : Nat) : Rn (aLk T90 σ) g 9 ls st h k s = (i_op o_isub 10) g (Rn (aLk T90 σ) g) ls st h k s := Rn.go mo90 rfl g ls st h k s
theorem r90_10 (σ : Nat → Value) (g : aG) (ls st : List Value) (h : aH) (k s : Nat) : Rn (aLk T90 σ) g 10 ls st h k s = (i_iload 2 11) g (Rn (aLk T90 σ) g) ls st h k s := Rn.go mo90 rfl g ls st h k s
theorem r90_11 (σ : Nat → Value) (g : aG) (ls st : List Value) (h : aH) (k s : Nat) : Rn (aLk T90 σ) g 11 ls st h k s = (i_op (o_int 64) 13) g (Rn (aLk T90 σ) g) ls st h k s := Rn.go mo90 rfl g ls st h k s
theorem r90_13 (σ : Nat → Value) (g : aG) (ls st : List Value) (h : aH) (k s : Nat) : Rn (aLk T90 σ) g 13 ls st h k s = (i_cge 22 16) g (Rn (aLk T90 σ) g) ls st h k s := Rn.go mo90 rfl g ls st h k s
theorem r90_16 (σ : Nat → Value) (g : aG) (ls st : List Value) (h : aH) (k s : Nat) : Rn (aLk T90 σ) g 16 ls st h k s = (i_iload 2 17) g (Rn (aLk T90 σ) g) ls st h k s := Rn.go mo90 rfl g ls st h k s
theorem r90_17 (σ : Nat → Value) (g : aG) (ls st : List Value) (h : aH) (k s : Nat) : Rn (aLk T90 σ) g 17 ls st h k s = (i_op (o_int 2) 18) g (Rn (aLk T90 σ) g) ls st h k s := Rn.go mo90 rfl g ls st h k s
theorem r90_18 (σ : Nat → Value) (g : aG) (ls st : List Value) (h : aH) (k s : Nat) : Rn (aLk T90 σ) g 18 ls st h k s = (i_op o_iadd 19) g (Rn (aLk T90 σ) g) ls st h k s := Rn.go mo90 rfl g ls st h k s
theorem r90_19 (σ : Nat → Value) (g : aG) (ls st : List Value) (h : aH) (k s : Nat) : Rn (aLk T90 σ) g 19 ls st h k s = (i_goto 25) g (Rn (aLk T90 σ) g) ls st h k s := Rn.go mo90 rfl g ls st h k s
theorem r90_22 (σ : Nat → Value) (g : aG) (ls st : List Value) (h : aH) (k s : Nat) : Rn (aLk T90 σ) g 22 ls st h k s = (i_iload 2 23) g (Rn (aLk T90 σ) g) ls st h k s := Rn.go mo90 rfl g ls st h k s
theorem r90_23 (σ : Nat → Value) (g : aG) (ls st : List Value) (h : aH) (k s : Nat) : Rn (aLk T90 σ) g 23 ls st h k s = (i_op (o_int 1) 24) g (Rn (aLk T90 σ) g) ls st h k s := Rn.go mo90 rfl g ls st h k s
theorem r90_24 (σ : Nat → Value) (g : aG) (ls st : List Value) (h : aH) (k s : Nat) : Rn (aLk T90 σ) g 24 ls st h k s = (i_op o_ishr 25) g (Rn (aLk T90 σ) g) ls st h k s := Rn.go mo90 rfl g ls st h k s
theorem r90_25 (σ : Nat → Value) (g : aG) (ls st : List Value) (h : aH) (k s : Nat) : Rn (aLk T90 σ) g 25 ls st h k s = (i_callS 120 3 [] 28) g (Rn (aLk T90 σ) g) ls st h k s := Rn.go mo90 rfl g ls st h k s
theorem r90_28 (σ : Nat → Value) (g : aG) (ls st : List Value) (h : aH) (k s : Nat) : Rn (aLk T90 σ) g 28 ls st h k s = (i_istore 3 29) g (Rn (aLk T90 σ) g) ls st h k s := Rn.go mo90 rfl g ls st h k s
theorem r90_29 (σ : Nat → Value) (g : aG) (ls st : List Value) (h : aH) (k s : Nat) : Rn (aLk T90 σ) g 29 ls st h k s = (i_aload 0 30) g (Rn (aLk T90 σ) g) ls st h k s := Rn.go mo90 rfl g ls st h k s
theorem r90_30 (σ : Nat → Value) (g : aG) (ls st : List Value) (h : aH) (k s : Nat) : Rn (aLk T90 σ) g 30 ls st h k s = (i_aload 0 31) g (Rn (aLk T90 σ) g) ls st h k s := Rn.go mo90 rfl g ls st h k s
theorem r90_31 (σ : Nat → Value) (g : aG) (ls st : List Value) (h : aH) (k s : Nat) : Rn (aLk T90 σ) g 31 ls st h k s = (i_getf 6 0 34) g (Rn (aLk T90 σ) g) ls st h k s := Rn.go mo90 rfl g ls st h k s
theorem r90_34 (σ : Nat → Value) (g : aG) (ls st : List Value) (h : aH) (k s : Nat) : Rn (aLk T90 σ) g 34 ls st h k s = (i_iload 3 35) g (Rn (aLk T90 σ) g) ls st h k s := Rn.go mo90 rfl g ls st h k s
theorem r90_35 (σ : Nat → Value) (g : aG) (ls st : List Value) (h : aH) (k s : Nat) : Rn (aLk T90 σ) g 35 ls st h k s = (i_callS 70 2 [] 38) g (Rn (aLk T90 σ) g) ls st h k s := Rn.go mo90 rfl g ls st h k s
theorem r90_38 (σ : Nat → Value) (g : aG) (ls st : List Value) (h : aH) (k s : Nat) : Rn (aLk T90 σ) g 38 ls st h k s = (i_putf 6 0 (.array (.object "java/lang/Object")) 41) g (Rn (aLk T90 σ) g) ls st h k s := Rn.go mo90 rfl g ls st h k s
theorem r90_41 (σ : Nat → Value) (g : aG) (ls st : List Value) (h : aH) (k s : Nat) : Rn (aLk T90 σ) g 41 ls st h k s = (i_ret) g (Rn (aLk T90 σ) g) ls st h k s := Rn.go mo90 rfl g ls st h k s
theorem r91_0 (σ : Nat → Value) (g : aG) (ls st : List Value) (h : aH) (k s : Nat) : Rn (aLk T91 σ) g 0 ls st h k s = (i_aload 1 1) g (Rn (aLk T91 σ) g) ls st h k s := Rn.go mo91 rfl g ls st h k s
theorem r91_1 (σ : Nat → Value) (g : aG) (ls st : List Value) (h : aH) (k s : Nat) : Rn (aLk T91 σ) g 1 ls st h k s = (i_nnull 12 4) g (Rn (aLk T91 σ) g) ls st h k s := Rn.go mo91 rfl g ls st h k s
theorem r91_7 (σ : Nat → Value) (g : aG) (ls st : List Value) (h : aH) (k s : Nat) : Rn (aLk T91 σ) g 7 ls st h k s = (i_op o_dup 8) g (Rn (aLk T91 σ) g) ls st h k s := Rn.go mo91 rfl g ls st h k s
theorem r91_12 (σ : Nat → Value) (g : aG) (ls st : List Value) (h : aH) (k s : Nat) : Rn (aLk T91 σ) g 12 ls st h k s = (i_aload 0 13) g (Rn (aLk T91 σ) g) ls st h k s := Rn.go mo91 rfl g ls st h k s
theorem r91_13 (σ : Nat → Value) (g : aG) (ls st : List Value) (h : aH) (k s : Nat) : Rn (aLk T91 σ) g 13 ls st h k s = (i_op o_dup 14) g (Rn (aLk T91 σ) g) ls st h k s := Rn.go mo91 rfl g ls st h k s
theorem r91_14 (σ : Nat → Value) (g : aG) (ls st : List Value) (h : aH) (k s : Nat) : Rn (aLk T91 σ) g 14 ls st h k s = (i_getf 6 3 17) g (Rn (aLk T91 σ) g) ls st h k s := Rn.go mo91 rfl g ls st h k s
theorem r91_17 (σ : Nat → Value) (g : aG) (ls st : List Value) (h : aH) (k s : Nat) : Rn (aLk T91 σ) g 17 ls st h k s = (i_op (o_int 1) 18) g (Rn (aLk T91 σ) g) ls st h k s := Rn.go mo91 rfl g ls st h k s
theorem r91_18 (σ : Nat → Value) (g : aG) (ls st : List Value) (h : aH) (k s : Nat) : Rn (aLk T91 σ) g 18 ls st h k s = (i_op o_iadd 19) g (Rn (aLk T91 σ) g) ls st h k s := Rn.go mo91 rfl g ls st h k s
theorem r91_19 (σ : Nat → Value) (g : aG) (ls st : List Value) (h : aH) (k s : Nat) : Rn (aLk T91 σ) g 19 ls st h k s = (i_putf 6 3 .int 22) g (Rn (aLk T91 σ) g) ls st h k s := Rn.go mo91 rfl g ls st h k s
theorem r91_22 (σ : Nat → Value) (g : aG) (ls st : List Value) (h : aH) (k s : Nat) : Rn (aLk T91 σ) g 22 ls st h k s = (i_aload 0 23) g (Rn (aLk T91 σ) g) ls st h k s := Rn.go mo91 rfl g ls st h k s
theorem r91_23 (σ : Nat → Value) (g : aG) (ls st : List Value) (h : aH) (k s : Nat) : Rn (aLk T91 σ) g 23 ls st h k s = (i_getf 6 1 26) g (Rn (aLk T91 σ) g) ls st h k s := Rn.go mo91 rfl g ls st h k s
theorem r91_26 (σ : Nat → Value) (g : aG) (ls st : List Value) (h : aH) (k s : Nat) : Rn (aLk T91 σ) g 26 ls st h k s = (i_istore 2 27) g (Rn (aLk T91 σ) g) ls st h k s := Rn.go mo91 rfl g ls st h k s
theorem r91_27 (σ : Nat → Value) (g : aG) (ls st : List Value) (h : aH) (k s : Nat) : Rn (aLk T91 σ) g 27 ls st h k s = (i_iload 2 28) g (Rn (aLk T91 σ) g) ls st h k s := Rn.go mo91 rfl g ls st h k s
theorem r91_28 (σ : Nat → Value) (g : aG) (ls st : List Value) (h : aH) (k s : Nat) : Rn (aLk T91 σ) g 28 ls st h k s = (i_aload 0 29) g (Rn (aLk T91 σ) g) ls st h k s := Rn.go mo91 rfl g ls st h k s
theorem r91_29 (σ : Nat → Value) (g : aG) (ls st : List Value) (h : aH) (k s : Nat) : Rn (aLk T91 σ) g 29 ls st h k s = (i_getf 6 0 32) g (Rn (aLk T91 σ) g) ls st h k s := Rn.go mo91 rfl g ls st h k s
theorem r91_32 (σ : Nat → Value) (g : aG) (ls st : List Value) (h : aH) (k s : Nat) : Rn (aLk T91 σ) g 32 ls st h k s = (i_alen 33) g (Rn (aLk T91 σ) g) ls st h k s := Rn.go mo91 rfl g ls st h k s
theorem r91_33 (σ : Nat → Value) (g : aG) (ls st : List Value) (h : aH) (k s : Nat) : Rn (aLk T91 σ) g 33 ls st h k s = (i_clt 43 36) g (Rn (aLk T91 σ) g) ls st h k s := Rn.go mo91 rfl g ls st h k s
theorem r91_36 (σ : Nat → Value) (g : aG) (ls st : List Value) (h : aH) (k s : Nat) : Rn (aLk T91 σ) g 36 ls st h k s = (i_aload 0 37) g (Rn (aLk T91 σ) g) ls st h k s := Rn.go mo91 rfl g ls st h k s
theorem r91_37 (σ : Nat → Value) (g : aG) (ls st : List Value) (h : aH) (k s : Nat) : Rn (aLk T91 σ) g 37 ls st h k s = (i_iload 2 38) g (Rn (aLk T91 σ) g) ls st h k s := Rn.go mo91 rfl g ls st h k s
theorem r91_38 (σ : Nat → Value) (g : aG) (ls st : List Value) (h : aH) (k s : Nat) : Rn (aLk T91 σ) g 38 ls st h k s = (i_op (o_int 1) 39) g (Rn (aLk T91 σ) g) ls st h k s := Rn.go mo91 rfl g ls st h k s
theorem r91_39 (σ : Nat → Value) (g : aG) (ls st : List Value) (h : aH) (k s : Nat) : Rn (aLk T91 σ) g 39 ls st h k s = (i_op o_iadd 40) g (Rn (aLk T91 σ) g) ls st h k s := Rn.go mo91 rfl g ls st h k s
theorem r91_40 (σ : Nat → Value) (g : aG) (ls st : List Value) (h : aH) (k s : Nat) : Rn (aLk T91 σ) g 40 ls st h k s = (i_callV [(6, 90)] 1 [] 43) g (Rn (aLk T91 σ) g) ls st h k s := Rn.go mo91 rfl g ls st h k s
theorem r91_43 (σ : Nat → Value) (g : aG) (ls st : List Value) (h : aH) (k s : Nat) : Rn (aLk T91 σ) g 43 ls st h k s = (i_aload 0 44) g (Rn (aLk T91 σ) g) ls st h k s := Rn.go mo91 rfl g ls st h k s
theorem r91_44 (σ : Nat → Value) (g : aG) (ls st : List Value) (h : aH) (k s : Nat) : Rn (aLk T91 σ) g 44 ls st h k s = (i_iload 2 45) g (Rn (aLk T91 σ) g) ls st h k s := Rn.go mo91 rfl g ls st h k s
theorem r91_45 (σ : Nat → Value) (g : aG) (ls st : List Value) (h : aH) (k s : Nat) : Rn (aLk T91 σ) g 45 ls st h k s = (i_aload 1 46) g (Rn (aLk T91 σ) g) ls st h k s := Rn.go mo91 rfl g ls st h k s
theorem r91_46 (σ : Nat → Value) (g : aG) (ls st : List Value) (h : aH) (k s : Nat) : Rn (aLk T91 σ) g 46 ls st h k s = (i_callV [(6, 94)] 2 [] 49) g (Rn (aLk T91 σ) g) ls st h k s := Rn.go mo91 rfl g ls st h k s
theorem r91_49 (σ : Nat → Value) (g : aG) (ls st : List Value) (h : aH) (k s : Nat) : Rn (aLk T91 σ) g 49 ls st h k s = (i_aload 0 50) g (Rn (aLk T91 σ) g) ls st h k s := Rn.go mo91 rfl g ls st h k s
theorem r91_50 (σ : Nat → Value) (g : aG) (ls st : List Value) (h : aH) (k s : Nat) : Rn (aLk T91 σ) g 50 ls st h k s = (i_iload 2 51) g (Rn (aLk T91 σ) g) ls st h k s := Rn.go mo91 rfl g ls st h k s
theorem r91_51 (σ : Nat → Value) (g : aG) (ls st : List Value) (h : aH) (k s : Nat) : Rn (aLk T91 σ) g 51 ls st h k s = (i_op (o_int 1) 52) g (Rn (aLk T91 σ) g) ls st h k s := Rn.go mo91 rfl g ls st h k s
theorem r91_52 (σ : Nat → Value) (g : aG) (ls st : List Value) (h : aH) (k s : Nat) : Rn (aLk T91 σ) g 52 ls st h k s = (i_op o_iadd 53) g (Rn (aLk T91 σ) g) ls st h k s := Rn.go mo91 rfl g ls st h k s
theorem r91_53 (σ : Nat → Value) (g : aG) (ls st : List Value) (h : aH) (k s : Nat) : Rn (aLk T91 σ) g 53 ls st h k s = (i_putf 6 1 .int 56) g (Rn (aLk T91 σ) g) ls st h k s := Rn.go mo91 rfl g ls st h k s
theorem r91_56 (σ : Nat → Value) (g : aG) (ls st : List Value) (h : aH) (k s : Nat) : Rn (aLk T91 σ) g 56 ls st h k s = (i_op (o_int 1) 57) g (Rn (aLk T91 σ) g) ls st h k s := Rn.go mo91 rfl g ls st h k s
theorem r91_57 (σ : Nat → Value) (g : aG) (ls st : List Value) (h : aH) (k s : Nat) : Rn (aLk T91 σ) g 57 ls st h k s = (i_iret .boolean) g (Rn (aLk T91 σ) g) ls st h k s := Rn.go mo91 rfl g ls st h k s
theorem r92_0 (σ : Nat → Value) (g : aG) (ls st : List Value) (h : aH) (k s : Nat) : Rn (aLk T92 σ) g 0 ls st h k s = (i_aload 0 1) g (Rn (aLk T92 σ) g) ls st h k s := Rn.go mo92 rfl g ls st h k s
theorem r92_1 (σ : Nat → Value) (g : aG) (ls st : List Value) (h : aH) (k s : Nat) : Rn (aLk T92 σ) g 1 ls st h k s = (i_getf 6 0 4) g (Rn (aLk T92 σ) g) ls st h k s := Rn.go mo92 rfl g ls st h k s
theorem r92_4 (σ : Nat → Value) (g : aG) (ls st : List Value) (h : aH) (k s : Nat) : Rn (aLk T92 σ) g 4 ls st h k s = (i_op o_dup 5) g (Rn (aLk T92 σ) g) ls st h k s := Rn.go mo92 rfl g ls st h k s
theorem r92_5 (σ : Nat → Value) (g : aG) (ls st : List Value) (h : aH) (k s : Nat) : Rn (aLk T92 σ) g 5 ls st h k s = (i_astore 1 6) g (Rn (aLk T92 σ) g) ls st h k s := Rn.go mo92 rfl g ls st h k s
theorem r92_6 (σ : Nat → Value) (g : aG) (ls st : List Value) (h : aH) (k s : Nat) : Rn (aLk T92 σ) g 6 ls st h k s = (i_op (o_int 0) 7) g (Rn (aLk T92 σ) g) ls st h k s := Rn.go mo92 rfl g ls st h k s
theorem r92_7 (σ : Nat → Value) (g : aG) (ls st : List Value) (h : aH) (k s : Nat) : Rn (aLk T92 σ) g 7 ls st h k s = (i_aald [4, 5, 6, 7, 1004, 1008, 1009] 8) g (Rn (aLk T92 σ) g) ls st h k s := Rn.go mo92 rfl g ls st h k s
theorem r92_8 (σ : Nat → Value) (g : aG) (ls st : List Value) (h : aH) (k s : Nat) : Rn (aLk T92 σ) g 8 ls st h k s = (i_op o_dup 9) g (Rn (aLk T92 σ) g) ls st h k s := Rn.go mo92 rfl g ls st h k s
theorem r92_9 (σ : Nat → Value) (g : aG) (ls st : List Value) (h : aH) (k s : Nat) : Rn (aLk T92 σ) g 9 ls st h k s = (i_astore 2 10) g (Rn (aLk T92 σ) g) ls st h k s := Rn.go mo92 rfl g ls st h k s
theorem r92_10 (σ : Nat → Value) (g : aG) (ls st : List Value) (h : aH) (k s : Nat) : Rn (aLk T92 σ) g 10 ls st h k s = (i_null 79 13) g (Rn (aLk T92 σ) g) ls st h k s := Rn.go mo92 rfl g ls st h k s
theorem r92_13 (σ : Nat → Value) (g : aG) (ls st : List Value) (h : aH) (k s : Nat) : Rn (aLk T92 σ) g 13 ls st h k s = (i_aload 0 14) g (Rn (aLk T92 σ) g) ls st h k s := Rn.go mo92 rfl g ls st h k s
theorem r92_14 (σ : Nat → Value) (g : aG) (ls st : List Value) (h : aH) (k s : Nat) : Rn (aLk T92 σ) g 14 ls st h k s = (i_op o_dup 15) g (Rn (aLk T92 σ) g) ls st h k s := Rn.go mo92 rfl g ls st h k s
theorem r92_15 (σ : Nat → Value) (g : aG) (ls st : List Value) (h : aH) (k s : Nat) : Rn (aLk T92 σ) g 15 ls st h k s = (i_getf 6 3 18) g (Rn (aLk T92 σ) g) ls st h k s := Rn.go mo92 rfl g ls st h k s
theorem r92_18 (σ : Nat → Value) (g : aG) (ls st : List Value) (h : aH) (k s : Nat) : Rn (aLk T92 σ) g 18 ls st h k s = (i_op (o_int 1) 19) g (Rn (aLk T92 σ) g) ls st h k s := Rn.go mo92 rfl g ls st h k s
theorem r92_19 (σ : Nat → Value) (g : aG) (ls st : List Value) (h : aH) (k s : Nat) : Rn (aLk T92 σ) g 19 ls st h k s = (i_op o_iadd 20) g (Rn (aLk T92 σ) g) ls st h k s := Rn.go mo92 rfl g ls st h k s
theorem r92_20 (σ : Nat → Value) (g : aG) (ls st : List Value) (h : aH) (k s : Nat) : Rn (aLk T92 σ) g 20 ls st h k s = (i_putf 6 3 .int 23) g (Rn (aLk T92 σ) g) ls st h k s := Rn.go mo92 rfl g ls st h k s
theorem r92_23 (σ : Nat → Value) (g : aG) (ls st : List Value) (h : aH) (k s : Nat) : Rn (aLk T92 σ) g 23 ls st h k s = (i_aload 1 24) g (Rn (aLk T92 σ) g) ls st h k s := Rn.go mo92 rfl g ls st h k s
theorem r92_24 (σ : Nat → Value) (g : aG) (ls st : List Value) (h : aH) (k s : Nat) : Rn (aLk T92 σ) g 24 ls st h k s = (i_aload 0 25) g (Rn (aLk T92 σ) g) ls st h k s := Rn.go mo92 rfl g ls st h k s
theorem r92_25 (σ : Nat → Value) (g : aG) (ls st : List Value) (h : aH) (k s : Nat) : Rn (aLk T92 σ) g 25 ls st h k s = (i_op o_dup 26) g (Rn (aLk T92 σ) g) ls st h k s := Rn.go mo92 rfl g ls st h k s
theorem r92_26 (σ : Nat → Value) (g : aG) (ls st : List Value) (h : aH) (k s : Nat) : Rn (aLk T92 σ) g 26 ls st h k s = (i_getf 6 1 29) g (Rn (aLk T92 σ) g) ls st h k s := Rn.go mo92 rfl g ls st h k s
theorem r92_29 (σ : Nat → Value) (g : aG) (ls st : List Value) (h : aH) (k s : Nat) : Rn (aLk T92 σ) g 29 ls st h k s = (i_op (o_int 1) 30) g (Rn (aLk T92 σ) g) ls st h k s := Rn.go mo92 rfl g ls st h k s
theorem r92_30 (σ : Nat → Value) (g : aG) (ls st : List Value) (h : aH) (k s : Nat) : Rn (aLk T92 σ) g 30 ls st h k s = (i_op o_isub 31) g (Rn (aLk T92 σ) g) ls st h k s := Rn.go mo92 rfl g ls st h k s
theorem r92_31 (σ : Nat → Value) (g : aG) (ls st : List Value) (h : aH) (k s : Nat) : Rn (aLk T92 σ) g 31 ls st h k s = (i_op o_dup_x1 32) g (Rn (aLk T92 σ) g) ls st h k s := Rn.go mo92 rfl g ls st h k s
theorem r92_32 (σ : Nat → Value) (g : aG) (ls st : List Value) (h : aH) (k s : Nat) : Rn (aLk T92 σ) g 32 ls st h k s = (i_putf 6 1 .int 35) g (Rn (aLk T92 σ) g) ls st h k s := Rn.go mo92 rfl g ls st h k s
theorem r92_35 (σ : Nat → Value) (g : aG) (ls st : List Value) (h : aH) (k s : Nat) : Rn (aLk T92 σ) g 35 ls st h k s = (i_op o_dup 36) g (Rn (aLk T92 σ) g) ls st h k s := Rn.go mo92 rfl g ls st h k s
theorem r92_36 (σ : Nat → Value) (g : aG) (ls st : List Value) (h : aH) (k s : Nat) : Rn (aLk T92 σ) g 36 ls st h k s = (i_istore 3 37) g (Rn (aLk T92 σ) g) ls st h k s := Rn.go mo92 rfl g ls st h k s
theorem r92_37 (σ : Nat → Value) (g : aG) (ls st : List Value) (h : aH) (k s : Nat) : Rn (aLk T92 σ) g 37 ls st h k s = (i_aald [4, 5, 6, 7, 1004, 1008, 1009] 38) g (Rn (aLk T92 σ) g) ls st h k s := Rn.go mo92 rfl g ls st h k s
theorem r92_38 (σ : Nat → Value) (g : aG) (ls st : List Value) (h : aH) (k s : Nat) : Rn (aLk T92 σ) g 38 ls st h k s = (i_astore 4 40) g (Rn (aLk T92 σ) g) ls st h k s := Rn.go mo92 rfl g ls st h k s
theorem r92_40 (σ : Nat → Value) (g : aG) (ls st : List Value) (h : aH) (k s : Nat) : Rn (aLk T92 σ) g 40 ls st h k s = (i_aload 1 41) g (Rn (aLk T92 σ) g) ls st h k s := Rn.go mo92 rfl g ls st h k s
theorem r92_41 (σ : Nat → Value) (g : aG) (ls st : List Value) (h : aH) (k s : Nat) : Rn (aLk T92 σ) g 41 ls st h k s = (i_iload 3 42) g (Rn (aLk T92 σ) g) ls st h k s := Rn.go mo92 rfl g ls st h k s
theorem r92_42 (σ : Nat → Value) (g : aG) (ls st : List Value) (h : aH) (k s : Nat) : Rn (aLk T92 σ) g 42 ls st h k s = (i_op o_null 43) g (Rn (aLk T92 σ) g) ls st h k s := Rn.go mo92 rfl g ls st h k s
theorem r92_43 (σ : Nat → Value) (g : aG) (ls st : List Value) (h : aH) (k s : Nat) : Rn (aLk T92 σ) g 43 ls st h k s = (i_aast 44) g (Rn (aLk T92 σ) g) ls st h k s := Rn.go mo92 rfl g ls st h k s
theorem r92_44 (σ : Nat → Value) (g : aG) (ls st : List Value) (h : aH) (k s : Nat) : Rn (aLk T92 σ) g 44 ls st h k s = (i_iload 3 45) g (Rn (aLk T92 σ) g) ls st h k s := Rn.go mo92 rfl g ls st h k s
theorem r92_45 (σ : Nat → Value) (g : aG) (ls st : List Value) (h : aH) (k s : Nat) : Rn (aLk T92 σ) g 45 ls st h k s = (i_ifle 79 48) g (Rn (aLk T92 σ) g) ls st h k s := Rn.go mo92 rfl g ls st h k s
theorem r92_48 (σ : Nat → Value) (g : aG) (ls st : List Value) (h : aH) (k s : Nat) : Rn (aLk T92 σ) g 48 ls st h k s = (i_aload 0 49) g (Rn (aLk T92 σ) g) ls st h k s := Rn.go mo92 rfl g ls st h k s
theorem r92_49 (σ : Nat → Value) (g : aG) (ls st : List Value) (h : aH) (k s : Nat) : Rn (aLk T92 σ) g 49 ls st h k s = (i_getf 6 2 52) g (Rn (aLk T92 σ) g) ls st h k s := Rn.go mo92 rfl g ls st h k s
theorem r92_52 (σ : Nat → Value) (g : aG) (ls st : List Value) (h : aH) (k s : Nat) : Rn (aLk T92 σ) g 52 ls st h k s = (i_op o_dup 53) g (Rn (aLk T92 σ) g) ls st h k s := Rn.go mo92 rfl g ls st h k s
theorem r92_53 (σ : Nat → Value) (g : aG) (ls st : List Value) (h : aH) (k s : Nat) : Rn (aLk T92 σ) g 53 ls st h k s = (i_astore 5 55) g (Rn (aLk T92 σ) g) ls st h k s := Rn.go mo92 rfl g ls st h k s
theorem r92_55 (σ : Nat → Value) (g : aG) (ls st : List Value) (h : aH) (k s : Nat) : Rn (aLk T92 σ) g 55 ls st h k s = (i_nnull 69 58) g (Rn (aLk T92 σ) g) ls st h k s := Rn.go mo92 rfl g ls st h k s
theorem r92_58 (σ : Nat → Value) (g : aG) (ls st : List Value) (h : aH) (k s : Nat) : Rn (aLk T92 σ) g 58 ls st h k s = (i_op (o_int 0) 59) g (Rn (aLk T92 σ) g) ls st h k s := Rn.go mo92 rfl g ls st h k s
theorem r92_59 (σ : Nat → Value) (g : aG) (ls st : List Value) (h : aH) (k s : Nat) : Rn (aLk T92 σ) g 59 ls st h k s = (i_aload 4 61) g (Rn (aLk T92 σ) g) ls st h k s := Rn.go mo92 rfl g ls st h k s
theorem r92_61 (σ : Nat → Value) (g : aG) (ls st : List Value) (h : aH) (k s : Nat) : Rn (aLk T92 σ) g 61 ls st h k s = (i_aload 1 62) g (Rn (aLk T92 σ) g) ls st h k s := Rn.go mo92 rfl g ls st h k s
theorem r92_62 (σ : Nat → Value) (g : aG) (ls st : List Value) (h : aH) (k s : Nat) : Rn (aLk T92 σ) g 62 ls st h k s = (i_iload 3 63) g (Rn (aLk T92 σ) g) ls st h k s := Rn.go mo92 rfl g ls st h k s
theorem r92_63 (σ : Nat → Value) (g : aG) (ls st : List Value) (h : aH) (k s : Nat) : Rn (aLk T92 σ) g 63 ls st h k s = (i_callS 93 4 [] 66) g (Rn (aLk T92 σ) g) ls st h k s := Rn.go mo92 rfl g ls st h k s
theorem r92_66 (σ : Nat → Value) (g : aG) (ls st : List Value) (h : aH) (k s : Nat) : Rn (aLk T92 σ) g 66 ls st h k s = (i_goto 79) g (Rn (aLk T92 σ) g) ls st h k s := Rn.go mo92 rfl g ls st h k s
theorem r92_69 (σ : Nat → Value) (g : aG) (ls st : List Value) (h : aH) (k s : Nat) : Rn (aLk T92 σ) g 69 ls st h k s = (i_op (o_int 0) 70) g (Rn (aLk T92 σ) g) ls st h k s := Rn.go mo92 rfl g ls st h k s
theorem r92_70 (σ : Nat → Value) (g : aG) (ls st : List Value) (h : aH) (k s : Nat) : Rn (aLk T92 σ) g 70 ls st h k s = (i_aload 4 72) g (Rn (aLk T92 σ) g) ls st h k s := Rn.go mo92 rfl g ls st h k s
theorem r92_72 (σ : Nat → Value) (g : aG) (ls st : List Value) (h : aH) (k s : Nat) : Rn (aLk T92 σ) g 72 ls st h k s = (i_aload 1 73) g (Rn (aLk T92 σ) g) ls st h k s := Rn.go mo92 rfl g ls st h k s
theorem r92_73 (σ : Nat → Value) (g : aG) (ls st : List Value) (h : aH) (k s : Nat) : Rn (aLk T92 σ) g 73 ls st h k s = (i_iload 3 74) g (Rn (aLk T92 σ) g) ls st h k s := Rn.go mo92 rfl g ls st h k s
theorem r92_74 (σ : Nat → Value) (g : aG) (ls st : List Value) (h : aH) (k s : Nat) : Rn (aLk T92 σ) g 74 ls st h k s = (i_aload 5 76) g (Rn (aLk T92 σ) g) ls st h k s := Rn.go mo92 rfl g ls st h k s
theorem r92_79 (σ : Nat → Value) (g : aG) (ls st : List Value) (h : aH) (k s : Nat) : Rn (aLk T92 σ) g 79 ls st h k s = (i_aload 2 80) g (Rn (aLk T92 σ) g) ls st h k s := Rn.go mo92 rfl g ls st h k s
theorem r92_80 (σ : Nat → Value) (g : aG) (ls st : List Value) (h : aH) (k s : Nat) : Rn (aLk T92 σ) g 80 ls st h k s = (i_aret) g (Rn (aLk T92 σ) g) ls st h k s := Rn.go mo92 rfl g ls st h k s
theorem r93_0 (σ : Nat → Value) (g : aG) (ls st : List Value) (h : aH) (k s : Nat) : Rn (aLk T93 σ) g 0 ls st h k s = (i_aload 1 1) g (Rn (aLk T93 σ) g) ls st h k s := Rn.go mo93 rfl g ls st h k s
theorem r93_1 (σ : Nat → Value) (g : aG) (ls st : List Value) (h : aH) (k s : Nat) : Rn (aLk T93 σ) g 1 ls st h k s = (i_cast [2, 3, 10, 16, 24, 1002, 1003, 1010] [] 4) g (Rn (aLk T93 σ) g) ls st h k s := Rn.go mo93 rfl g ls st h k s
theorem r93_4 (σ : Nat → Value) (g : aG) (ls st : List Value) (h : aH) (k s : Nat) : Rn (aLk T93 σ) g 4 ls st h k s = (i_astore 4 6) g (Rn (aLk T93 σ) g) ls st h k s := Rn.go mo93 rfl g ls st h k s
theorem r93_6 (σ : Nat → Value) (g : aG) (ls st : List Value) (h : aH) (k s : Nat) : Rn (aLk T93 σ) g 6 ls st h k s = (i_iload 3 7) g (Rn (aLk T93 σ) g) ls st h k s := Rn.go mo93 rfl g ls st h k s
theorem r93_7 (σ : Nat → Value) (g : aG) (ls st : List Value) (h : aH) (k s : Nat) : Rn (aLk T93 σ) g 7 ls st h k s = (i_op (o_int 1) 8) g (Rn (aLk T93 σ) g) ls st h k s := Rn.go mo93 rfl g ls st h k s
theorem r93_8 (σ : Nat → Value) (g : aG) (ls st : List Value) (h : aH) (k s : Nat) : Rn (aLk T93 σ) g 8 ls st h k s = (i_op o_iushr 9) g (Rn (aLk T93 σ) g) ls st h k s := Rn.go mo93 rfl g ls st h k s
theorem r93_9 (σ : Nat → Value) (g : aG) (ls st : List Value) (h : aH) (k s : Nat) : Rn (aLk T93 σ) g 9 ls st h k s = (i_istore 5 11) g (Rn (aLk T93 σ) g) ls st h k s := Rn.go mo93 rfl g ls st h k s
theorem r93_11 (σ : Nat → Value) (g : aG) (ls st : List Value) (h : aH) (k s : Nat) : Rn (aLk T93 σ) g 11 ls st h k s = (i_iload 0 12) g (Rn (aLk T93 σ) g) ls st h k s := Rn.go mo93 rfl g ls st h k s
theorem r93_12 (σ : Nat → Value) (g : aG) (ls st : List Value) (h : aH) (k s : Nat) : Rn (aLk T93 σ) g 12 ls st h k s = (i_iload 5 14) g (Rn (aLk T93 σ) g) ls st h k s := Rn.go mo93 rfl g ls st h k s
theorem r93_14 (σ : Nat → Value) (g : aG) (ls st : List Value) (h : aH) (k s : Nat) : Rn (aLk T93 σ) g 14 ls st h k s = (i_cge 94 17) g (Rn (aLk T93 σ) g) ls st h k s := Rn.go mo93 rfl g ls st h k s
theorem r93_17 (σ : Nat → Value) (g : aG) (ls st : List Value) (h : aH) (k s : Nat) : Rn (aLk T93 σ) g 17 ls st h k s = (i_iload 0 18) g (Rn (aLk T93 σ) g) ls st h k s := Rn.go mo93 rfl g ls st h k s
theorem r93_18 (σ : Nat → Value) (g : aG) (ls st : List Value) (h : aH) (k s : Nat) : Rn (aLk T93 σ) g 18 ls st h k s = (i_op (o_int 1) 19) g (Rn (aLk T93 σ) g) ls st h k s := Rn.go mo93 rfl g ls st h k s
theorem r93_19 (σ : Nat → Value) (g : aG) (ls st : List Value) (h : aH) (k s : Nat) : Rn (aLk T93 σ) g 19 ls st h k s = (i_op o_ishl 20) g (Rn (aLk T93 σ) g) ls st h k s := Rn.go mo93 rfl g ls st h k s
theorem r93_20 (σ : Nat → Value) (g : aG) (ls st : List Value) (h : aH) (k s : Nat) : Rn (aLk T93 σ) g 20 ls st h k s = (i_op (o_int 1) 21) g (Rn (aLk T93 σ) g) ls st h k s := Rn.go mo93 rfl g ls st h k s
theorem r93_21 (σ : Nat → Value) (g : aG) (ls st : List Value) (h : aH) (k s : Nat) : Rn (aLk T93 σ) g 21 ls st h k s = (i_op o_iadd 22) g (Rn (aLk T93 σ) g) ls st h k s := Rn.go mo93 rfl g ls st h k s
theorem r93_22 (σ : Nat → Value) (g : aG) (ls st : List Value) (h : aH) (k s : Nat) : Rn (aLk T93 σ) g 22 ls st h k s = (i_istore 6 24) g (Rn (aLk T93 σ) g) ls st h k s := Rn.go mo93 rfl g ls st h k s
theorem r93_24 (σ : Nat → Value) (g : aG) (ls st : List Value) (h : aH) (k s : Nat) : Rn (aLk T93 σ) g 24 ls st h k s = (i_aload 2 25) g (Rn (aLk T93 σ) g) ls st h k s := Rn.go mo93 rfl g ls st h k s
theorem r93_25 (σ : Nat → Value) (g : aG) (ls st : List Value) (h : aH) (k s : Nat) : Rn (aLk T93 σ) g 25 ls st h k s = (i_iload 6 27) g (Rn (aLk T93 σ) g) ls st h k s := Rn.go mo93 rfl g ls st h k s
theorem r93_27 (σ : Nat → Value) (g : aG) (ls st : List Value) (h : aH) (k s : Nat) : Rn (aLk T93 σ) g 27 ls st h k s = (i_aald [4, 5, 6, 7, 1004, 1008, 1009] 28) g (Rn (aLk T93 σ) g) ls st h k s := Rn.go mo93 rfl g ls st h k s
theorem r93_28 (σ : Nat → Value) (g : aG) (ls st : List Value) (h : aH) (k s : Nat) : Rn (aLk T93 σ) g 28 ls st h k s = (i_astore 7 30) g (Rn (aLk T93 σ) g) ls st h k s := Rn.go mo93 rfl g ls st h k s
theorem r93_30 (σ : Nat → Value) (g : aG) (ls st : List Value) (h : aH) (k s : Nat) : Rn (aLk T93 σ) g 30 ls st h k s = (i_iload 6 32) g (Rn (aLk T93 σ) g) ls st h k s := Rn.go mo93 rfl g ls st h k s
theorem r93_32 (σ : Nat → Value) (g : aG) (ls st : List Value) (h : aH) (k s : Nat) : Rn (aLk T93 σ) g 32 ls st h k s = (i_op (o_int 1) 33) g (Rn (aLk T93 σ) g) ls st h k s := Rn.go mo93 rfl g ls st h k s
theorem r93_33 (σ : Nat → Value) (g : aG) (ls st : List Value) (h : aH) (k s : Nat) : Rn (aLk T93 σ) g 33 ls st h k s = (i_op o_iadd 34) g (Rn (aLk T93 σ) g) ls st h k s := Rn.go mo93 rfl g ls st h k s
theorem r93_34 (σ : Nat → Value) (g : aG) (ls st : List Value) (h : aH) (k s : Nat) : Rn (aLk T93 σ) g 34 ls st h k s = (i_istore 8 36) g (Rn (aLk T93 σ) g) ls st h k s := Rn.go mo93 rfl g ls st h k s
theorem r93_36 (σ : Nat → Value) (g : aG) (ls st : List Value) (h : aH) (k s : Nat) : Rn (aLk T93 σ) g 36 ls st h k s = (i_iload 8 38) g (Rn (aLk T93 σ) g) ls st h k s := Rn.go mo93 rfl g ls st h k s
theorem r93_38 (σ : Nat → Value) (g : aG) (ls st : List Value) (h : aH) (k s : Nat) : Rn (aLk T93 σ) g 38 ls st h k s = (i_iload 3 39) g (Rn (aLk T93 σ) g) ls st h k s := Rn.go mo93 rfl g ls st h k s
theorem r93_39 (σ : Nat → Value) (g : aG) (ls st : List Value) (h : aH) (k s : Nat) : Rn (aLk T93 σ) g 39 ls st h k s = (i_cge 68 42) g (Rn (aLk T93 σ) g) ls st h k s := Rn.go mo93 rfl g ls st h k s
theorem r93_42 (σ : Nat → Value) (g : aG) (ls st : List Value) (h : aH) (k s : Nat) : Rn (aLk T93 σ) g 42 ls st h k s = (i_aload 7 44) g (Rn (aLk T93 σ) g) ls st h k s := Rn.go mo93 rfl g ls st h k s
theorem r93_44 (σ : Nat → Value) (g : aG) (ls st : List Value) (h : aH) (k s : Nat) : Rn (aLk T93 σ) g 44 ls st h k s = (i_cast [2, 3, 10, 16, 24, 1002, 1003, 1010] [] 47) g (Rn (aLk T93 σ) g) ls st h k s := Rn.go mo93 rfl g ls st h k s
theorem r93_47 (σ : Nat → Value) (g : aG) (ls st : List Value) (h : aH) (k s : Nat) : Rn (aLk T93 σ) g 47 ls st h k s = (i_aload 2 48) g (Rn (aLk T93 σ) g) ls st h k s := Rn.go mo93 rfl g ls st h k s
theorem r93_48 (σ : Nat → Value) (g : aG) (ls st : List Value) (h : aH) (k s : Nat) : Rn (aLk T93 σ) g 48 ls st h k s = (i_iload 8 50) g (Rn (aLk T93 σ) g) ls st h k s := Rn.go mo93 rfl g ls st h k s
theorem r93_50 (σ : Nat → Value) (g : aG) (ls st : List Value) (h : aH) (k s : Nat) : Rn (aLk T93 σ) g 50 ls st h k s = (i_aald [4, 5, 6, 7, 1004, 1008, 1009] 51) g (Rn (aLk T93 σ) g) ls st h k s := Rn.go mo93 rfl g ls st h k s
theorem r93_51 (σ : Nat → Value) (g : aG) (ls st : List Value) (h : aH) (k s : Nat) : Rn (aLk T93 σ) g 51 ls st h k s = (i_callV [(2, 12), (24, 226), (16, 213), (1002, 12)] 1 [] 56) g (Rn (aLk T93 σ) g) ls st h k s := Rn.go mo93 rfl g ls st h k s
theorem r93_56 (σ : Nat → Value) (g : aG) (ls st : List Value) (h : aH) (k s : Nat) : Rn (aLk T93 σ) g 56 ls st h k s = (i_ifle 68 59) g (Rn (aLk T93 σ) g) ls st h k s := Rn.go mo93 rfl g ls st h k s
theorem r93_59 (σ : Nat → Value) (g : aG) (ls st : List Value) (h : aH) (k s : Nat) : Rn (aLk T93 σ) g 59 ls st h k s = (i_aload 2 60) g (Rn (aLk T93 σ) g) ls st h k s := Rn.go mo93 rfl g ls st h k s
theorem r93_60 (σ : Nat → Value) (g : aG) (ls st : List Value) (h : aH) (k s : Nat) : Rn (aLk T93 σ) g 60 ls st h k s = (i_iload 8 62) g (Rn (aLk T93 σ) g) ls st h k s := Rn.go mo93 rfl g ls st h k s
theorem r93_62 (σ : Nat → Value) (g : aG) (ls st : List Value) (h : aH) (k s : Nat) : Rn (aLk T93 σ) g 62 ls st h k s = (i_op o_dup 63) g (Rn (aLk T93 σ) g) ls st h k s := Rn.go mo93 rfl g ls st h k s
theorem r93_63 (σ : Nat → Value) (g : aG) (ls st : List Value) (h : aH) (k s : Nat) : Rn (aLk T93 σ) g 63 ls st h k s = (i_istore 6 65) g (Rn (aLk T93 σ) g) ls st h k s := Rn.go mo93 rfl g ls st h k s
theorem r93_65 (σ : Nat → Value) (g : aG) (ls st : List Value) (h : aH) (k s : Nat) : Rn (aLk T93 σ) g 65 ls st h k s = (i_aald [4, 5, 6, 7, 1004, 1008, 1009] 66) g (Rn (aLk T93 σ) g) ls st h k s := Rn.go mo93 rfl g ls st h k s
theorem r93_66 (σ : Nat → Value) (g : aG) (ls st : List Value) (h : aH) (k s : Nat) : Rn (aLk T93 σ) g 66 ls st h k s = (i_astore 7 68) g (Rn (aLk T93 σ) g) ls st h k s := Rn.go mo93 rfl g ls st h k s
theorem r93_68 (σ : Nat → Value) (g : aG) (ls st : List Value) (h : aH) (k s : Nat) : Rn (aLk T93 σ) g 68 ls st h k s = (i_aload 4 70) g (Rn (aLk T93 σ) g) ls st h k s := Rn.go mo93 rfl g ls st h k s
theorem r93_70 (σ : Nat → Value) (g : aG) (ls st : List Value) (h : aH) (k s : Nat) : Rn (aLk T93 σ) g 70 ls st h k s = (i_aload 7 72) g (Rn (aLk T93 σ) g) ls st h k s := Rn.go mo93 rfl g ls st h k s
theorem r93_72 (σ : Nat → Value) (g : aG) (ls st : List Value) (h : aH) (k s : Nat) : Rn (aLk T93 σ) g 72 ls st h k s = (i_callV [(2, 12), (24, 226), (16, 213), (1002, 12)] 1 [] 77) g (Rn (aLk T93 σ) g) ls st h k s := Rn.go mo93 rfl g ls st h k s
theorem r93_77 (σ : Nat → Value) (g : aG) (ls st : List Value) (h : aH) (k s : Nat) : Rn (aLk T93 σ) g 77 ls st h k s = (i_ifgt 83 80) g (Rn (aLk T93 σ) g) ls st h k s := Rn.go mo93 rfl g ls st h k s
theorem r93_80 (σ : Nat → Value) (g : aG) (ls st : List Value) (h : aH) (k s : Nat) : Rn (aLk T93 σ) g 80 ls st h k s = (i_goto 94) g (Rn (aLk T93 σ) g) ls st h k s := Rn.go mo93 rfl g ls st h k s
theorem r93_83 (σ : Nat → Value) (g : aG) (ls st : List Value) (h : aH) (k s : Nat) : Rn (aLk T93 σ) g 83 ls st h k s = (i_aload 2 84) g (Rn (aLk T93 σ) g) ls st h k s := Rn.go mo93 rfl g ls st h k s
theorem r93_84 (σ : Nat → Value) (g : aG) (ls st : List Value) (h : aH) (k s : Nat) : Rn (aLk T93 σ) g 84 ls st h k s = (i_iload 0 85) g (Rn (aLk T93 σ) g) ls st h k s := Rn.go mo93 rfl g ls st h k s
theorem r93_85 (σ : Nat → Value) (g : aG) (ls st : List Value) (h : aH) (k s : Nat) : Rn (aLk T93 σ) g 85 ls st h k s = (i_aload 7 87) g (Rn (aLk T93 σ) g) ls st h k s := Rn.go mo93 rfl g ls st h k s
theorem r93_87 (σ : Nat → Value) (g : aG) (ls st : List Value) (h : aH) (k s : Nat) : Rn (aLk T93 σ) g 87 ls st h k s = (i_aast 88) g (Rn (aLk T93 σ) g) ls st h k s := Rn.go mo93 rfl g ls st h k s
theorem r93_88 (σ : Nat → Value) (g : aG) (ls st : List Value) (h : aH) (k s : Nat) : Rn (aLk T93 σ) g 88 ls st h k s = (i_iload 6 90) g (Rn (aLk T93 σ) g) ls st h k s := Rn.go mo93 rfl g ls st h k s
theorem r93_90 (σ : Nat → Value) (g : aG) (ls st : List Value) (h : aH) (k s : Nat) : Rn (aLk T93 σ) g 90 ls st h k s = (i_istore 0 91) g (Rn (aLk T93 σ) g) ls st h k s := Rn.go mo93 rfl g ls st h k s
theorem r93_91 (σ : Nat → Value) (g : aG) (ls st : List Value) (h : aH) (k s : Nat) : Rn (aLk T93 σ) g 91 ls st h k s = (i_goto 11) g (Rn (aLk T93 σ) g) ls st h k s := Rn.go mo93 rfl g ls st h k s
theorem r93_94 (σ : Nat → Value) (g : aG) (ls st : List Value) (h : aH) (k s : Nat) : Rn (aLk T93 σ) g 94 ls st h k s = (i_aload 2 95) g (Rn (aLk T93 σ) g) ls st h k s := Rn.go mo93 rfl g ls st h k s
theorem r93_95 (σ : Nat → Value) (g : aG) (ls st : List Value) (h : aH) (k s : Nat) : Rn (aLk T93 σ) g 95 ls st h k s = (i_iload 0 96) g (Rn (aLk T93 σ) g) ls st h k s := Rn.go mo93 rfl g ls st h k s
theorem r93_96 (σ : Nat → Value) (g : aG) (ls st : List Value) (h : aH) (k s : Nat) : Rn (aLk T93 σ) g 96 ls st h k s = (i_aload 4 98) g (Rn (aLk T93 σ) g) ls st h k s := Rn.go mo93 rfl g ls st h k s
theorem r93_98 (σ : Nat → Value) (g : aG) (ls st : List Value) (h : aH) (k s : Nat) : Rn (aLk T93 σ) g 98 ls st h k s = (i_aast 99) g (Rn (aLk T93 σ) g) ls st h k s := Rn.go mo93 rfl g ls st h k s
theorem r93_99 (σ : Nat → Value) (g : aG) (ls st : List Value) (h : aH) (k s : Nat) : Rn (aLk T93 σ) g 99 ls st h k s = (i_ret) g (Rn (aLk T93 σ) g) ls st h k s := Rn.go mo93 rfl g ls st h k s
theorem r94_0 (σ : Nat → Value) (g : aG) (ls st : List Value) (h : aH) (k s : Nat) : Rn (aLk T94 σ) g 0 ls st h k s = (i_aload 0 1) g (Rn (aLk T94 σ) g) ls st h k s := Rn.go mo94 rfl g ls st h k s
theorem r94_1 (σ : Nat → Value) (g : aG) (ls st : List Value) (h : aH) (k s : Nat) : Rn (aLk T94 σ) g 1 ls st h k s = (i_getf 6 2 4) g (Rn (aLk T94 σ) g) ls st h k s := Rn.go mo94 rfl g ls st h k s
theorem r94_4 (σ : Nat → Value) (g : aG) (ls st : List Value) (h : aH) (k s : Nat) : Rn (aLk T94 σ) g 4 ls st h k s = (i_null 23 7) g (Rn (aLk T94 σ) g) ls st h k s := Rn.go mo94 rfl g ls st h k s
theorem r94_7 (σ : Nat → Value) (g : aG) (ls st : List Value) (h : aH) (k s : Nat) : Rn (aLk T94 σ) g 7 ls st h k s = (i_iload 1 8) g (Rn (aLk T94 σ) g) ls st h k s := Rn.go mo94 rfl g ls st h k s
theorem r94_8 (σ : Nat → Value) (g : aG) (ls st : List Value) (h : aH) (k s : Nat) : Rn (aLk T94 σ) g 8 ls st h k s = (i_aload 2 9) g (Rn (aLk T94 σ) g) ls st h k s := Rn.go mo94 rfl g ls st h k s
theorem r94_9 (σ : Nat → Value) (g : aG) (ls st : List Value) (h : aH) (k s : Nat) : Rn (aLk T94 σ) g 9 ls st h k s = (i_aload 0 10) g (Rn (aLk T94 σ) g) ls st h k s := Rn.go mo94 rfl g ls st h k s
theorem r94_10 (σ : Nat → Value) (g : aG) (ls st : List Value) (h : aH) (k s : Nat) : Rn (aLk T94 σ) g 10 ls st h k s = (i_getf 6 0 13) g (Rn (aLk T94 σ) g) ls st h k s := Rn.go mo94 rfl g ls st h k s
theorem r94_13 (σ : Nat → Value) (g : aG) (ls st : List Value) (h : aH) (k s : Nat) : Rn (aLk T94 σ) g 13 ls st h k s = (i_aload 0 14) g (Rn (aLk T94 σ) g) ls st h k s := Rn.go mo94 rfl g ls st h k s
theorem r94_14 (σ : Nat → Value) (g : aG) (ls st : List Value) (h : aH) (k s : Nat) : Rn (aLk T94 σ) g 14 ls st h k s = (i_getf 6 2 17) g (Rn (aLk T94 σ) g) ls st h k s := Rn.go mo94 rfl g ls st h k s
theorem r94_20 (σ : Nat → Value) (g : aG) (ls st : List Value) (h : aH) (k s : Nat) : Rn (aLk T94 σ) g 20 ls st h k s = (i_goto 32) g (Rn (aLk T94 σ) g) ls st h k s := Rn.go mo94 rfl g ls st h k s
theorem r94_23 (σ : Nat → Value) (g : aG) (ls st : List Value) (h : aH) (k s : Nat) : Rn (aLk T94 σ) g 23 ls st h k s = (i_iload 1 24) g (Rn (aLk T94 σ) g) ls st h k s := Rn.go mo94 rfl g ls st h k s
theorem r94_24 (σ : Nat → Value) (g : aG) (ls st : List Value) (h : aH) (k s : Nat) : Rn (aLk T94 σ) g 24 ls st h k s = (i_aload 2 25) g (Rn (aLk T94 σ) g) ls st h k s := Rn.go mo94 rfl g ls st h k s
theorem r94_25 (σ : Nat → Value) (g : aG) (ls st : List Value) (h : aH) (k s : Nat) : Rn (aLk T94 σ) g 25 ls st h k s = (i_aload 0 26) g (Rn (aLk T94 σ) g) ls st h k s := Rn.go mo94 rfl g ls st h k s
theorem r94_26 (σ : Nat → Value) (g : aG) (ls st : List Value) (h : aH) (k s : Nat) : Rn (aLk T94 σ) g 26 ls st h k s = (i_getf 6 0 29) g (Rn (aLk T94 σ) g) ls st h k s := Rn.go mo94 rfl g ls st h k s
theorem r94_29 (σ : Nat → Value) (g : aG) (ls st : List Value) (h : aH) (k s : Nat) : Rn (aLk T94 σ) g 29 ls st h k s = (i_callS 95 3 [] 32) g (Rn (aLk T94 σ) g) ls st h k s := Rn.go mo94 rfl g ls st h k s
theorem r94_32 (σ : Nat → Value) (g : aG) (ls st : List Value) (h : aH) (k s : Nat) : Rn (aLk T94 σ) g 32 ls st h k s = (i_ret) g (Rn (aLk T94 σ) g) ls st h k s := Rn.go mo94 rfl g ls st h k s
theorem r95_0 (σ : Nat → Value) (g : aG) (ls st : List Value) (h : aH) (k s : Nat) : Rn (aLk T95 σ) g 0 ls st h k s = (i_aload 1 1) g (Rn (aLk T95 σ) g) ls st h k s := Rn.go mo95 rfl g ls st h k s
theorem r95_1 (σ : Nat → Value) (g : aG) (ls st : List Value) (h : aH) (k s : Nat) : Rn (aLk T95 σ) g 1 ls st h k s = (i_cast [2, 3, 10, 16, 24, 1002, 1003, 1010] [] 4) g (Rn (aLk T95 σ) g) ls st h k s := Rn.go mo95 rfl g ls st h k s
theorem r95_4 (σ : Nat → Value) (g : aG) (ls st : List Value) (h : aH) (k s : Nat) : Rn (aLk T95 σ) g 4 ls st h k s = (i_astore 3 5) g (Rn (aLk T95 σ) g) ls st h k s := Rn.go mo95 rfl g ls st h k s
theorem r95_5 (σ : Nat → Value) (g : aG) (ls st : List Value) (h : aH) (k s : Nat) : Rn (aLk T95 σ) g 5 ls st h k s = (i_iload 0 6) g (Rn (aLk T95 σ) g) ls st h k s := Rn.go mo95 rfl g ls st h k s
theorem r95_6 (σ : Nat → Value) (g : aG) (ls st : List Value) (h : aH) (k s : Nat) : Rn (aLk T95 σ) g 6 ls st h k s = (i_ifle 47 9) g (Rn (aLk T95 σ) g) ls st h k s := Rn.go mo95 rfl g ls st h k s
theorem r95_9 (σ : Nat → Value) (g : aG) (ls st : List Value) (h : aH) (k s : Nat) : Rn (aLk T95 σ) g 9 ls st h k s = (i_iload 0 10) g (Rn (aLk T95 σ) g) ls st h k s := Rn.go mo95 rfl g ls st h k s
theorem r95_10 (σ : Nat → Value) (g : aG) (ls st : List Value) (h : aH) (k s : Nat) : Rn (aLk T95 σ) g 10 ls st h k s = (i_op (o_int 1) 11) g (Rn (aLk T95 σ) g) ls st h k s := Rn.go mo95 rfl g ls st h k s
theorem r95_11 (σ : Nat → Value) (g : aG) (ls st : List Value) (h : aH) (k s : Nat) : Rn (aLk T95 σ) g 11 ls st h k s = (i_op o_isub 12) g (Rn (aLk T95 σ) g) ls st h k s := Rn.go mo95 rfl g ls st h k s
theorem r95_12 (σ : Nat → Value) (g : aG) (ls st : List Value) (h : aH) (k s : Nat) : Rn (aLk T95 σ) g 12 ls st h k s = (i_op (o_int 1) 13) g (Rn (aLk T95 σ) g) ls st h k s := Rn.go mo95 rfl g ls st h k s
theorem r95_13 (σ : Nat → Value) (g : aG) (ls st : List Value) (h : aH) (k s : Nat) : Rn (aLk T95 σ) g 13 ls st h k s = (i_op o_iushr 14) g (Rn (aLk T95 σ) g) ls st h k s := Rn.go mo95 rfl g ls st h k s
theorem r95_14 (σ : Nat → Value) (g : aG) (ls st : List Value) (h : aH) (k s : Nat) : Rn (aLk T95 σ) g 14 ls st h k s = (i_istore 4 16) g (Rn (aLk T95 σ) g) ls st h k s := Rn.go mo95 rfl g ls st h k s
theorem r95_16 (σ : Nat → Value) (g : aG) (ls st : List Value) (h : aH) (k s : Nat) : Rn (aLk T95 σ) g 16 ls st h k s = (i_aload 2 17) g (Rn (aLk T95 σ) g) ls st h k s := Rn.go mo95 rfl g ls st h k s
theorem r95_17 (σ : Nat → Value) (g : aG) (ls st : List Value) (h : aH) (k s : Nat) : Rn (aLk T95 σ) g 17 ls st h k s = (i_iload 4 19) g (Rn (aLk T95 σ) g) ls st h k s := Rn.go mo95 rfl g ls st h k s
theorem r95_19 (σ : Nat → Value) (g : aG) (ls st : List Value) (h : aH) (k s : Nat) : Rn (aLk T95 σ) g 19 ls st h k s = (i_aald [4, 5, 6, 7, 1004, 1008, 1009] 20) g (Rn (aLk T95 σ) g) ls st h k s := Rn.go mo95 rfl g ls st h k s
theorem r95_20 (σ : Nat → Value) (g : aG) (ls st : List Value) (h : aH) (k s : Nat) : Rn (aLk T95 σ) g 20 ls st h k s = (i_astore 5 22) g (Rn (aLk T95 σ) g) ls st h k s := Rn.go mo95 rfl g ls st h k s
theorem r95_22 (σ : Nat → Value) (g : aG) (ls st : List Value) (h : aH) (k s : Nat) : Rn (aLk T95 σ) g 22 ls st h k s = (i_aload 3 23) g (Rn (aLk T95 σ) g) ls st h k s := Rn.go mo95 rfl g ls st h k s
theorem r95_23 (σ : Nat → Value) (g : aG) (ls st : List Value) (h : aH) (k s : Nat) : Rn (aLk T95 σ) g 23 ls st h k s = (i_aload 5 25) g (Rn (aLk T95 σ) g) ls st h k s := Rn.go mo95 rfl g ls st h k s
theorem r95_25 (σ : Nat → Value) (g : aG) (ls st : List Value) (h : aH) (k s : Nat) : Rn (aLk T95 σ) g 25 ls st h k s = (i_callV [(2, 12), (24, 226), (16, 213), (1002, 12)] 1 [] 30) g (Rn (aLk T95 σ) g) ls st h k s := Rn.go mo95 rfl g ls st h k s
theorem r95_30 (σ : Nat → Value) (g : aG) (ls st : List Value) (h : aH) (k s : Nat) : Rn (aLk T95 σ) g 30 ls st h k s = (i_iflt 36 33) g (Rn (aLk T95 σ) g) ls st h k s := Rn.go mo95 rfl g ls st h k s
theorem r95_33 (σ : Nat → Value) (g : aG) (ls st : List Value) (h : aH) (k s : Nat) : Rn (aLk T95 σ) g 33 ls st h k s = (i_goto 47) g (Rn (aLk T95 σ) g) ls st h k s := Rn.go mo95 rfl g ls st h k s
theorem r95_36 (σ : Nat → Value) (g : aG) (ls st : List Value) (h : aH) (k s : Nat) : Rn (aLk T95 σ) g 36 ls st h k s = (i_aload 2 37) g (Rn (aLk T95 σ) g) ls st h k s := Rn.go mo95 rfl g ls st h k s
theorem r95_37 (σ : Nat → Value) (g : aG) (ls st : List Value) (h : aH) (k s : Nat) : Rn (aLk T95 σ) g 37 ls st h k s = (i_iload 0 38) g (Rn (aLk T95 σ) g) ls st h k s := Rn.go mo95 rfl g ls st h k s
theorem r95_38 (σ : Nat → Value) (g : aG) (ls st : List Value) (h : aH) (k s : Nat) : Rn (aLk T95 σ) g 38 ls st h k s = (i_aload 5 40) g (Rn (aLk T95 σ) g) ls st h k s := Rn.go mo95 rfl g ls st h k s
theorem r95_40 (σ : Nat → Value) (g : aG) (ls st : List Value) (h : aH) (k s : Nat) : Rn (aLk T95 σ) g 40 ls st h k s = (i_aast 41) g (Rn (aLk T95 σ) g) ls st h k s := Rn.go mo95 rfl g ls st h k s
theorem r95_41 (σ : Nat → Value) (g : aG) (ls st : List Value) (h : aH) (k s : Nat) : Rn (aLk T95 σ) g 41 ls st h k s = (i_iload 4 43) g (Rn (aLk T95 σ) g) ls st h k s := Rn.go mo95 rfl g ls st h k s
theorem r95_43 (σ : Nat → Value) (g : aG) (ls st : List Value) (h : aH) (k s : Nat) : Rn (aLk T95 σ) g 43 ls st h k s = (i_istore 0 44) g (Rn (aLk T95 σ) g) ls st h k s := Rn.go mo95 rfl g ls st h k s
theorem r95_44 (σ : Nat → Value) (g : aG) (ls st : List Value) (h : aH) (k s : Nat) : Rn (aLk T95 σ) g 44 ls st h k s = (i_goto 5) g (Rn (aLk T95 σ) g) ls st h k s := Rn.go mo95 rfl g ls st h k s
theorem r95_47 (σ : Nat → Value) (g : aG) (ls st : List Value) (h : aH) (k s : Nat) : Rn (aLk T95 σ) g 47 ls st h k s = (i_aload 2 48) g (Rn (aLk T95 σ) g) ls st h k s := Rn.go mo95 rfl g ls st h k s
theorem r95_48 (σ : Nat → Value) (g : aG) (ls st : List Value) (h : aH) (k s : Nat) : Rn (aLk T95 σ) g 48 ls st h k s = (i_iload 0 49) g (Rn (aLk T95 σ) g) ls st h k s := Rn.go mo95 rfl g ls st h k s
theorem r95_49 (σ : Nat → Value) (g : aG) (ls st : List Value) (h : aH) (k s : Nat) : Rn (aLk T95 σ) g 49 ls st h k s = (i_aload 3 50) g (Rn (aLk T95 σ) g) ls st h k s := Rn.go mo95 rfl g ls st h k s
theorem r95_50 (σ : Nat → Value) (g : aG) (ls st : List Value) (h : aH) (k s : Nat) : Rn (aLk T95 σ) g 50 ls st h k s = (i_aast 51) g (Rn (aLk T95 σ) g) ls st h k s := Rn.go mo95 rfl g ls st h k s
theorem r95_51 (σ : Nat → Value) (g : aG) (ls st : List Value) (h : aH) (k s : Nat) : Rn (aLk T95 σ) g 51 ls st h k s = (i_ret) g (Rn (aLk T95 σ) g) ls st h k s := Rn.go mo95 rfl g ls st h k s
theorem r96_0 (σ : Nat → Value) (g : aG) (ls st : List Value) (h : aH) (k s : Nat) : Rn (aLk T96 σ) g 0 ls st h k s = (i_aload 0 1) g (Rn (aLk T96 σ) g) ls st h k s := Rn.go mo96 rfl g ls st h k s
theorem r96_1 (σ : Nat → Value) (g : aG) (ls st : List Value) (h : aH) (k s : Nat) : Rn (aLk T96 σ) g 1 ls st h k s = (i_getf 6 1 4) g (Rn (aLk T96 σ) g) ls st h k s := Rn.go mo96 rfl g ls st h k s
theorem r96_4 (σ : Nat → Value) (g : aG) (ls st : List Value) (h : aH) (k s : Nat) : Rn (aLk T96 σ) g 4 ls st h k s = (i_iret .int) g (Rn (aLk T96 σ) g) ls st h k s := Rn.go mo96 rfl g ls st h k s
theorem r97_0 (σ : Nat → Value) (g : aG) (ls st : List Value) (h : aH) (k s : Nat) : Rn (aLk T97 σ) g 0 ls st h k s = (i_aload 0 1) g (Rn (aLk T97 σ) g) ls st h k s := Rn.go mo97 rfl g ls st h k s
theorem r97_1 (σ : Nat → Value) (g : aG) (ls st : List Value) (h : aH) (k s : Nat) : Rn (aLk T97 σ) g 1 ls st h k s = (i_callI 27 0 [] 4) g (Rn (aLk T97 σ) g) ls st h k s := Rn.go mo97 rfl g ls st h k s
theorem r97_4 (σ : Nat → Value) (g : aG) (ls st : List Value) (h : aH) (k s : Nat) : Rn (aLk T97 σ) g 4 ls st h k s = (i_aload 0 5) g (Rn (aLk T97 σ) g) ls st h k s := Rn.go mo97 rfl g ls st h k s
theorem r97_5 (σ : Nat → Value) (g : aG) (ls st : List Value) (h : aH) (k s : Nat) : Rn (aLk T97 σ) g 5 ls st h k s = (i_op (o_int 0) 6) g (Rn (aLk T97 σ) g) ls st h k s := Rn.go mo97 rfl g ls st h k s
theorem r97_6 (σ : Nat → Value) (g : aG) (ls st : List Value) (h : aH) (k s : Nat) : Rn (aLk T97 σ) g 6 ls st h k s = (i_putf 7 4 .int 9) g (Rn (aLk T97 σ) g) ls st h k s := Rn.go mo97 rfl g ls st h k s
theorem r97_9 (σ : Nat → Value) (g : aG) (ls st : List Value) (h : aH) (k s : Nat) : Rn (aLk T97 σ) g 9 ls st h k s = (i_aload 0 10) g (Rn (aLk T97 σ) g) ls st h k s := Rn.go mo97 rfl g ls st h k s
theorem r97_10 (σ : Nat → Value) (g : aG) (ls st : List Value) (h : aH) (k s : Nat) : Rn (aLk T97 σ) g 10 ls st h k s = (i_op (o_int 0) 11) g (Rn (aLk T97 σ) g) ls st h k s := Rn.go mo97 rfl g ls st h k s
theorem r97_11 (σ : Nat → Value) (g : aG) (ls st : List Value) (h : aH) (k s : Nat) : Rn (aLk T97 σ) g 11 ls st h k s = (i_putf 7 5 .int 14) g (Rn (aLk T97 σ) g) ls st h k s := Rn.go mo97 rfl g ls st h k s
theorem r97_14 (σ : Nat → Value) (g : aG) (ls st : List Value) (h : aH) (k s : Nat) : Rn (aLk T97 σ) g 14 ls st h k s = (i_aload 0 15) g (Rn (aLk T97 σ) g) ls st h k s := Rn.go mo97 rfl g ls st h k s
theorem r97_15 (σ : Nat → Value) (g : aG) (ls st : List Value) (h : aH) (k s : Nat) : Rn (aLk T97 σ) g 15 ls st h k s = (i_op o_null 16) g (Rn (aLk T97 σ) g) ls st h k s := Rn.go mo97 rfl g ls st h k s
theorem r97_16 (σ : Nat → Value) (g : aG) (ls st : List Value) (h : aH) (k s : Nat) : Rn (aLk T97 σ) g 16 ls st h k s = (i_putf 7 2 (.object "java/util/Comparator") 19) g (Rn (aLk T97 σ) g) ls st h k s := Rn.go mo97 rfl g ls st h k s
theorem r97_19 (σ : Nat → Value) (g : aG) (ls st : List Value) (h : aH) (k s : Nat) : Rn (aLk T97 σ) g 19 ls st h k s = (i_ret) g (Rn (aLk T97 σ) g) ls st h k s := Rn.go mo97 rfl g ls st h k s
theorem r98_0 (σ : Nat → Value) (g : aG) (ls st : List Value) (h : aH) (k s : Nat) : Rn (aLk T98 σ) g 0 ls st h k s = (i_new 8 6 [.null, .null, .null, .null, .null, .int 0] 3) g (Rn (aLk T98 σ) g) ls st h k s := Rn.go mo98 rfl g ls st h k s
theorem r98_3 (σ : Nat → Value) (g : aG) (ls st : List Value) (h : aH) (k s : Nat) : Rn (aLk T98 σ) g 3 ls st h k s = (i_op o_dup 4) g (Rn (aLk T98 σ) g) ls st h k s := Rn.go mo98 rfl g ls st h k s
theorem r98_4 (σ : Nat → Value) (g : aG) (ls st : List Value) (h : aH) (k s : Nat) : Rn (aLk T98 σ) g 4 ls st h k s = (i_aload 1 5) g (Rn (aLk T98 σ) g) ls st h k s := Rn.go mo98 rfl g ls st h k s
theorem r98_5 (σ : Nat → Value) (g : aG) (ls st : List Value) (h : aH) (k s : Nat) : Rn (aLk T98 σ) g 5 ls st h k s = (i_aload 2 6) g (Rn (aLk T98 σ) g) ls st h k s := Rn.go mo98 rfl g ls st h k s
theorem r98_6 (σ : Nat → Value) (g : aG) (ls st : List Value) (h : aH) (k s : Nat) : Rn (aLk T98 σ) g 6 ls st h k s = (i_aload 3 7) g (Rn (aLk T98 σ) g) ls st h k s := Rn.go mo98 rfl g ls st h k s
theorem r98_7 (σ : Nat → Value) (g : aG) (ls st : List Value) (h : aH) (k s : Nat) : Rn (aLk T98 σ) g 7 ls st h k s = (i_callI 114 3 [] 10) g (Rn (aLk T98 σ) g) ls st h k s := Rn.go mo98 rfl g ls st h k s
theorem r98_10 (σ : Nat → Value) (g : aG) (ls st : List Value) (h : aH) (k s : Nat) : Rn (aLk T98 σ) g 10 ls st h k s = (i_astore 5 12) g (Rn (aLk T98 σ) g) ls st h k s := Rn.go mo98 rfl g ls st h k s
theorem r98_12 (σ : Nat → Value) (g : aG) (ls st : List Value) (h : aH) (k s : Nat) : Rn (aLk T98 σ) g 12 ls st h k s = (i_iload 4 14) g (Rn (aLk T98 σ) g) ls st h k s := Rn.go mo98 rfl g ls st h k s
theorem r98_14 (σ : Nat → Value) (g : aG) (ls st : List Value) (h : aH) (k s : Nat) : Rn (aLk T98 σ) g 14 ls st h k s = (i_ifeq 26 17) g (Rn (aLk T98 σ) g) ls st h k s := Rn.go mo98 rfl g ls st h k s
theorem r98_17 (σ : Nat → Value) (g : aG) (ls st : List Value) (h : aH) (k s : Nat) : Rn (aLk T98 σ) g 17 ls st h k s = (i_aload 3 18) g (Rn (aLk T98 σ) g) ls st h k s := Rn.go mo98 rfl g ls st h k s
theorem r98_18 (σ : Nat → Value) (g : aG) (ls st : List Value) (h : aH) (k s : Nat) : Rn (aLk T98 σ) g 18 ls st h k s = (i_aload 5 20) g (Rn (aLk T98 σ) g) ls st h k s := Rn.go mo98 rfl g ls st h k s
theorem r98_20 (σ : Nat → Value) (g : aG) (ls st : List Value) (h : aH) (k s : Nat) : Rn (aLk T98 σ) g 20 ls st h k s = (i_putf 8 2 (.object "java/util/TreeMap$Entry") 23) g (Rn (aLk T98 σ) g) ls st h k s := Rn.go mo98 rfl g ls st h k s
theorem r98_23 (σ : Nat → Value) (g : aG) (ls st : List Value) (h : aH) (k s : Nat) : Rn (aLk T98 σ) g 23 ls st h k s = (i_goto 32) g (Rn (aLk T98 σ) g) ls st h k s := Rn.go mo98 rfl g ls st h k s
theorem r98_26 (σ : Nat → Value) (g : aG) (ls st : List Value) (h : aH) (k s : Nat) : Rn (aLk T98 σ) g 26 ls st h k s = (i_aload 3 27) g (Rn (aLk T98 σ) g) ls st h k s := Rn.go mo98 rfl g ls st h k s
theorem r98_27 (σ : Nat → Value) (g : aG) (ls st : List Value) (h : aH) (k s : Nat) : Rn (aLk T98 σ) g 27 ls st h k s = (i_aload 5 29) g (Rn (aLk T98 σ) g) ls st h k s := Rn.go mo98 rfl g ls st h k s
theorem r98_29 (σ : Nat → Value) (g : aG) (ls st : List Value) (h : aH) (k s : Nat) : Rn (aLk T98 σ) g 29 ls st h k s = (i_putf 8 3 (.object "java/util/TreeMap$Entry") 32) g (Rn (aLk T98 σ) g) ls st h k s := Rn.go mo98 rfl g ls st h k s
theorem r98_32 (σ : Nat → Value) (g : aG) (ls st : List Value) (h : aH) (k s : Nat) : Rn (aLk T98 σ) g 32 ls st h k s = (i_aload 0 33) g (Rn (aLk T98 σ) g) ls st h k s := Rn.go mo98 rfl g ls st h k s
theorem r98_33 (σ : Nat → Value) (g : aG) (ls st : List Value) (h : aH) (k s : Nat) : Rn (aLk T98 σ) g 33 ls st h k s = (i_aload 5 35) g (Rn (aLk T98 σ) g) ls st h k s := Rn.go mo98 rfl g ls st h k s
theorem r98_35 (σ : Nat → Value) (g : aG) (ls st : List Value) (h : aH) (k s : Nat) : Rn (aLk T98 σ) g 35 ls st h k s = (i_callV [(7, 103)] 1 [] 38) g (Rn (aLk T98 σ) g) ls st h k s := Rn.go mo98 rfl g ls st h k s
theorem r98_38 (σ : Nat → Value) (g : aG) (ls st : List Value) (h : aH) (k s : Nat) : Rn (aLk T98 σ) g 38 ls st h k s = (i_aload 0 39) g (Rn (aLk T98 σ) g) ls st h k s := Rn.go mo98 rfl g ls st h k s
theorem r98_39 (σ : Nat → Value) (g : aG) (ls st : List Value) (h : aH) (k s : Nat) : Rn (aLk T98 σ) g 39 ls st h k s = (i_op o_dup 40) g (Rn (aLk T98 σ) g) ls st h k s := Rn.go mo98 rfl g ls st h k s
theorem r98_40 (σ : Nat → Value) (g : aG) (ls st : List Value) (h : aH) (k s : Nat) : Rn (aLk T98 σ) g 40 ls st h k s = (i_getf 7 4 43) g (Rn (aLk T98 σ) g) ls st h k s := Rn.go mo98 rfl g ls st h k s
theorem r98_43 (σ : Nat → Value) (g : aG) (ls st : List Value) (h : aH) (k s : Nat) : Rn (aLk T98 σ) g 43 ls st h k s = (i_op (o_int 1) 44) g (Rn (aLk T98 σ) g) ls st h k s := Rn.go mo98 rfl g ls st h k s
theorem r98_44 (σ : Nat → Value) (g : aG) (ls st : List Value) (h : aH) (k s : Nat) : Rn (aLk T98 σ) g 44 ls st h k s = (i_op o_iadd 45) g (Rn (aLk T98 σ) g) ls st h k s := Rn.go mo98 rfl g ls st h k s
theorem r98_45 (σ : Nat → Value) (g : aG) (ls st : List Value) (h : aH) (k s : Nat) : Rn (aLk T98 σ) g 45 ls st h k s = (i_putf 7 4 .int 48) g (Rn (aLk T98 σ) g) ls st h k s := Rn.go mo98 rfl g ls st h k s
theorem r98_48 (σ : Nat → Value) (g : aG) (ls st : List Value) (h : aH) (k s : Nat) : Rn (aLk T98 σ) g 48 ls st h k s = (i_aload 0 49) g (Rn (aLk T98 σ) g) ls st h k s := Rn.go mo98 rfl g ls st h k s
theorem r98_49 (σ : Nat → Value) (g : aG) (ls st : List Value) (h : aH) (k s : Nat) : Rn (aLk T98 σ) g 49 ls st h k s = (i_op o_dup 50) g (Rn (aLk T98 σ) g) ls st h k s := Rn.go mo98 rfl g ls st h k s
theorem r98_50 (σ : Nat → Value) (g : aG) (ls st : List Value) (h : aH) (k s : Nat) : Rn (aLk T98 σ) g 50 ls st h k s = (i_getf 7 5 53) g (Rn (aLk T98 σ) g) ls st h k s := Rn.go mo98 rfl g ls st h k s
theorem r98_53 (σ : Nat → Value) (g : aG) (ls st : List Value) (h : aH) (k s : Nat) : Rn (aLk T98 σ) g 53 ls st h k s = (i_op (o_int 1) 54) g (Rn (aLk T98 σ) g) ls st h k s := Rn.go mo98 rfl g ls st h k s
theorem r98_54 (σ : Nat → Value) (g : aG) (ls st : List Value) (h : aH) (k s : Nat) : Rn (aLk T98 σ) g 54 ls st h k s = (i_op o_iadd 55) g (Rn (aLk T98 σ) g) ls st h k s := Rn.go mo98 rfl g ls st h k s
theorem r98_55 (σ : Nat → Value) (g : aG) (ls st : List Value) (h : aH) (k s : Nat) : Rn (aLk T98 σ) g 55 ls st h k s = (i_putf 7 5 .int 58) g (Rn (aLk T98 σ) g) ls st h k s := Rn.go mo98 rfl g ls st h k s
theorem r98_58 (σ : Nat → Value) (g : aG) (ls st : List Value) (h : aH) (k s : Nat) : Rn (aLk T98 σ) g 58 ls st h k s = (i_ret) g (Rn (aLk T98 σ) g) ls st h k s := Rn.go mo98 rfl g ls st h k s
theorem r99_0 (σ : Nat → Value) (g : aG) (ls st : List Value) (h : aH) (k s : Nat) : Rn (aLk T99 σ) g 0 ls st h k s = (i_aload 0 1) g (Rn (aLk T99 σ) g) ls st h k s := Rn.go mo99 rfl g ls st h k s
theorem r99_1 (σ : Nat → Value) (g : aG) (ls st : List Value) (h : aH) (k s : Nat) : Rn (aLk T99 σ) g 1 ls st h k s = (i_aload 1 2) g (Rn (aLk T99 σ) g) ls st h k s := Rn.go mo99 rfl g ls st h k s
theorem r99_2 (σ : Nat → Value) (g : aG) (ls st : List Value) (h : aH) (k s : Nat) : Rn (aLk T99 σ) g 2 ls st h k s = (i_aload 1 3) g (Rn (aLk T99 σ) g) ls st h k s := Rn.go mo99 rfl g ls st h k s
theorem r99_3 (σ : Nat → Value) (g : aG) (ls st : List Value) (h : aH) (k s : Nat) : Rn (aLk T99 σ) g 3 ls st h k s = (i_callV [(7, 101)] 2 [] 6) g (Rn (aLk T99 σ) g) ls st h k s := Rn.go mo99 rfl g ls st h k s
theorem r99_6 (σ : Nat → Value) (g : aG) (ls st : List Value) (h : aH) (k s : Nat) : Rn (aLk T99 σ) g 6 ls st h k s = (i_op o_pop 7) g (Rn (aLk T99 σ) g) ls st h k s := Rn.go mo99 rfl g ls st h k s
theorem r99_7 (σ : Nat → Value) (g : aG) (ls st : List Value) (h : aH) (k s : Nat) : Rn (aLk T99 σ) g 7 ls st h k s = (i_aload 0 8) g (Rn (aLk T99 σ) g) ls st h k s := Rn.go mo99 rfl g ls st h k s
theorem r99_8 (σ : Nat → Value) (g : aG) (ls st : List Value) (h : aH) (k s : Nat) : Rn (aLk T99 σ) g 8 ls st h k s = (i_new 8 6 [.null, .null, .null, .null, .null, .int 0] 11) g (Rn (aLk T99 σ) g) ls st h k s := Rn.go mo99 rfl g ls st h k s
theorem r99_11 (σ : Nat → Value) (g : aG) (ls st : List Value) (h : aH) (k s : Nat) : Rn (aLk T99 σ) g 11 ls st h k s = (i_op o_dup 12) g (Rn (aLk T99 σ) g) ls st h k s := Rn.go mo99 rfl g ls st h k s
theorem r99_12 (σ : Nat → Value) (g : aG) (ls st : List Value) (h : aH) (k s : Nat) : Rn (aLk T99 σ) g 12 ls st h k s = (i_aload 1 13) g (Rn (aLk T99 σ) g) ls st h k s := Rn.go mo99 rfl g ls st h k s
theorem r99_13 (σ : Nat → Value) (g : aG) (ls st : List Value) (h : aH) (k s : Nat) : Rn (aLk T99 σ) g 13 ls st h k s = (i_aload 2 14) g (Rn (aLk T99 σ) g) ls st h k s := Rn.go mo99 rfl g ls st h k s
theorem r99_14 (σ : Nat → Value) (g : aG) (ls st : List Value) (h : aH) (k s : Nat) : Rn (aLk T99 σ) g 14 ls st h k s = (i_op o_null 15) g (Rn (aLk T99 σ) g) ls st h k s := Rn.go mo99 rfl g ls st h k s
theorem r99_15 (σ : Nat → Value) (g : aG) (ls st : List Value) (h : aH) (k s : Nat) : Rn (aLk T99 σ) g 15 ls st h k s = (i_callI 114 3 [] 18) g (Rn (aLk T99 σ) g) ls st h k s := Rn.go mo99 rfl g ls st h k s
theorem r99_18 (σ : Nat → Value) (g : aG) (ls st : List Value) (h : aH) (k s : Nat) : Rn (aLk T99 σ) g 18 ls st h k s = (i_putf 7 3 (.object "java/util/TreeMap$Entry") 21) g (Rn (aLk T99 σ) g) ls st h k s := Rn.go mo99 rfl g ls st h k s
theorem r99_21 (σ : Nat → Value) (g : aG) (ls st : List Value) (h : aH) (k s : Nat) : Rn (aLk T99 σ) g 21 ls st h k s = (i_aload 0 22) g (Rn (aLk T99 σ) g) ls st h k s := Rn.go mo99 rfl g ls st h k s
theorem r99_22 (σ : Nat → Value) (g : aG) (ls st : List Value) (h : aH) (k s : Nat) : Rn (aLk T99 σ) g 22 ls st h k s = (i_op (o_int 1) 23) g (Rn (aLk T99 σ) g) ls st h k s := Rn.go mo99 rfl g ls st h k s
theorem r99_23 (σ : Nat → Value) (g : aG) (ls st : List Value) (h : aH) (k s : Nat) : Rn (aLk T99 σ) g 23 ls st h k s = (i_putf 7 4 .int 26) g (Rn (aLk T99 σ) g) ls st h k s := Rn.go mo99 rfl g ls st h k s
theorem r99_26 (σ : Nat → Value) (g : aG) (ls st : List Value) (h : aH) (k s : Nat) : Rn (aLk T99 σ) g 26 ls st h k s = (i_aload 0 27) g (Rn (aLk T99 σ) g) ls st h k s := Rn.go mo99 rfl g ls st h k s
theorem r99_27 (σ : Nat → Value) (g : aG) (ls st : List Value) (h : aH) (k s : Nat) : Rn (aLk T99 σ) g 27 ls st h k s = (i_op o_dup 28) g (Rn (aLk T99 σ) g) ls st h k s := Rn.go mo99 rfl g ls st h k s
theorem r99_28 (σ : Nat → Value) (g : aG) (ls st : List Value) (h : aH) (k s : Nat) : Rn (aLk T99 σ) g 28 ls st h k s = (i_getf 7 5 31) g (Rn (aLk T99 σ) g) ls st h k s := Rn.go mo99 rfl g ls st h k s
theorem r99_31 (σ : Nat → Value) (g : aG) (ls st : List Value) (h : aH) (k s : Nat) : Rn (aLk T99 σ) g 31 ls st h k s = (i_op (o_int 1) 32) g (Rn (aLk T99 σ) g) ls st h k s := Rn.go mo99 rfl g ls st h k s
theorem r99_32 (σ : Nat → Value) (g : aG) (ls st : List Value) (h : aH) (k s : Nat) : Rn (aLk T99 σ) g 32 ls st h k s = (i_op o_iadd 33) g (Rn (aLk T99 σ) g) ls st h k s := Rn.go mo99 rfl g ls st h k s
theorem r99_33 (σ : Nat → Value) (g : aG) (ls st : List Value) (h : aH) (k s : Nat) : Rn (aLk T99 σ) g 33 ls st h k s = (i_putf 7 5 .int 36) g (Rn (aLk T99 σ) g) ls st h k s := Rn.go mo99 rfl g ls st h k s
theorem r99_36 (σ : Nat → Value) (g : aG) (ls st : List Value) (h : aH) (k s : Nat) : Rn (aLk T99 σ) g 36 ls st h k s = (i_ret) g (Rn (aLk T99 σ) g) ls st h k s := Rn.go mo99 rfl g ls st h k s
theorem r100_0 (σ : Nat → Value) (g : aG) (ls st : List Value) (h : aH) (k s : Nat) : Rn (aLk T100 σ) g 0 ls st h k s = (i_aload 0 1) g (Rn (aLk T100 σ) g) ls st h k s := Rn.go mo100 rfl g ls st h k s
theorem r100_1 (σ : Nat → Value) (g : aG) (ls st : List Value) (h : aH) (k s : Nat) : Rn (aLk T100 σ) g 1 ls st h k s = (i_nnull 8 4) g (Rn (aLk T100 σ) g) ls st h k s := Rn.go mo100 rfl g ls st h k s
theorem r100_4 (σ : Nat → Value) (g : aG) (ls st : List Value) (h : aH) (k s : Nat) : Rn (aLk T100 σ) g 4 ls st h k s = (i_op (o_int 1) 5) g (Rn (aLk T100 σ) g) ls st h k s := Rn.go mo100 rfl g ls st h k s
theorem r100_5 (σ : Nat → Value) (g : aG) (ls st : List Value) (h : aH) (k s : Nat) : Rn (aLk T100 σ) g 5 ls st h k s = (i_goto 12) g (Rn (aLk T100 σ) g) ls st h k s := Rn.go mo100 rfl g ls st h k s
theorem r100_8 (σ : Nat → Value) (g : aG) (ls st : List Value) (h : aH) (k s : Nat) : Rn (aLk T100 σ) g 8 ls st h k s = (i_aload 0 9) g (Rn (aLk T100 σ) g) ls st h k s := Rn.go mo100 rfl g ls st h k s
theorem r100_9 (σ : Nat → Value) (g : aG) (ls st : List Value) (h : aH) (k s : Nat) : Rn (aLk T100 σ) g 9 ls st h k s = (i_getf 8 5 12) g (Rn (aLk T100 σ) g) ls st h k s := Rn.go mo100 rfl g ls st h k s
theorem r100_12 (σ : Nat → Value) (g : aG) (ls st : List Value) (h : aH) (k s : Nat) : Rn (aLk T100 σ) g 12 ls st h k s = (i_iret .boolean) g (Rn (aLk T100 σ) g) ls st h k s := Rn.go mo100 rfl g ls st h k s
theorem r101_0 (σ : Nat → Value) (g : aG) (ls st : List Value) (h : aH) (k s : Nat) : Rn (aLk T101 σ) g 0 ls st h k s = (i_aload 0 1) g (Rn (aLk T101 σ) g) ls st h k s := Rn.go mo101 rfl g ls st h k s
theorem r101_1 (σ : Nat → Value) (g : aG) (ls st : List Value) (h : aH) (k s : Nat) : Rn (aLk T101 σ) g 1 ls st h k s = (i_getf 7 2 4) g (Rn (aLk T101 σ) g) ls st h k s := Rn.go mo101 rfl g ls st h k s
theorem r101_4 (σ : Nat → Value) (g : aG) (ls st : List Value) (h : aH) (k s : Nat) : Rn (aLk T101 σ) g 4 ls st h k s = (i_nnull 20 7) g (Rn (aLk T101 σ) g) ls st h k s := Rn.go mo101 rfl g ls st h k s
theorem r101_7 (σ : Nat → Value) (g : aG) (ls st : List Value) (h : aH) (k s : Nat) : Rn (aLk T101 σ) g 7 ls st h k s = (i_aload 1 8) g (Rn (aLk T101 σ) g) ls st h k s := Rn.go mo101 rfl g ls st h k s
theorem r101_8 (σ : Nat → Value) (g : aG) (ls st : List Value) (h : aH) (k s : Nat) : Rn (aLk T101 σ) g 8 ls st h k s = (i_cast [2, 3, 10, 16, 24, 1002, 1003, 1010] [] 11) g (Rn (aLk T101 σ) g) ls st h k s := Rn.go mo101 rfl g ls st h k s
theorem r101_11 (σ : Nat → Value) (g : aG) (ls st : List Value) (h : aH) (k s : Nat) : Rn (aLk T101 σ) g 11 ls st h k s = (i_aload 2 12) g (Rn (aLk T101 σ) g) ls st h k s := Rn.go mo101 rfl g ls st h k s
theorem r101_12 (σ : Nat → Value) (g : aG) (ls st : List Value) (h : aH) (k s : Nat) : Rn (aLk T101 σ) g 12 ls st h k s = (i_callV [(2, 12), (24, 226), (16, 213), (1002, 12)] 1 [] 17) g (Rn (aLk T101 σ) g) ls st h k s := Rn.go mo101 rfl g ls st h k s
theorem r101_17 (σ : Nat → Value) (g : aG) (ls st : List Value) (h : aH) (k s : Nat) : Rn (aLk T101 σ) g 17 ls st h k s = (i_goto 31) g (Rn (aLk T101 σ) g) ls st h k s := Rn.go mo101 rfl g ls st h k s
theorem r101_20 (σ : Nat → Value) (g : aG) (ls st : List Value) (h : aH) (k s : Nat) : Rn (aLk T101 σ) g 20 ls st h k s = (i_aload 0 21) g (Rn (aLk T101 σ) g) ls st h k s := Rn.go mo101 rfl g ls st h k s
theorem r101_21 (σ : Nat → Value) (g : aG) (ls st : List Value) (h : aH) (k s : Nat) : Rn (aLk T101 σ) g 21 ls st h k s = (i_getf 7 2 24) g (Rn (aLk T101 σ) g) ls st h k s := Rn.go mo101 rfl g ls st h k s
theorem r101_24 (σ : Nat → Value) (g : aG) (ls st : List Value) (h : aH) (k s : Nat) : Rn (aLk T101 σ) g 24 ls st h k s = (i_aload 1 25) g (Rn (aLk T101 σ) g) ls st h k s := Rn.go mo101 rfl g ls st h k s
theorem r101_25 (σ : Nat → Value) (g : aG) (ls st : List Value) (h : aH) (k s : Nat) : Rn (aLk T101 σ) g 25 ls st h k s = (i_aload 2 26) g (Rn (aLk T101 σ) g) ls st h k s := Rn.go mo101 rfl g ls st h k s
theorem r101_31 (σ : Nat → Value) (g : aG) (ls st : List Value) (h : aH) (k s : Nat) : Rn (aLk T101 σ) g 31 ls st h k s = (i_iret .int) g (Rn (aLk T101 σ) g) ls st h k s := Rn.go mo101 rfl g ls st h k s
theorem r102_0 (σ : Nat → Value) (g : aG) (ls st : List Value) (h : aH) (k s : Nat) : Rn (aLk T102 σ) g 0 ls st h k s = (i_aload 0 1) g (Rn (aLk T102 σ) g) ls st h k s := Rn.go mo102 rfl g ls st h k s
theorem r102_1 (σ : Nat → Value) (g : aG) (ls st : List Value) (h : aH) (k s : Nat) : Rn (aLk T102 σ) g 1 ls st h k s = (i_aload 1 2) g (Rn (aLk T102 σ) g) ls st h k s := Rn.go mo102 rfl g ls st h k s
theorem r102_2 (σ : Nat → Value) (g : aG) (ls st : List Value) (h : aH) (k s : Nat) : Rn (aLk T102 σ) g 2 ls st h k s = (i_callV [(7, 105)] 1 [] 5) g (Rn (aLk T102 σ) g) ls st h k s := Rn.go mo102 rfl g ls st h k s
theorem r102_5 (σ : Nat → Value) (g : aG) (ls st : List Value) (h : aH) (k s : Nat) : Rn (aLk T102 σ) g 5 ls st h k s = (i_null 12 8) g (Rn (aLk T102 σ) g) ls st h k s := Rn.go mo102 rfl g ls st h k s
theorem r102_8 (σ : Nat → Value) (g : aG) (ls st : List Value) (h : aH) (k s : Nat) : Rn (aLk T102 σ) g 8 ls st h k s = (i_op (o_int 1) 9) g (Rn (aLk T102 σ) g) ls st h k s := Rn.go mo102 rfl g ls st h k s
theorem r102_9 (σ : Nat → Value) (g : aG) (ls st : List Value) (h : aH) (k s : Nat) : Rn (aLk T102 σ) g 9 ls st h k s = (i_goto 13) g (Rn (aLk T102 σ) g) ls st h k s := Rn.go mo102 rfl g ls st h k s
theorem r102_12 (σ : Nat → Value) (g : aG) (ls st : List Value) (h : aH) (k s : Nat) : Rn (aLk T102 σ) g 12 ls st h k s = (i_op (o_int 0) 13) g (Rn (aLk T102 σ) g) ls st h k s := Rn.go mo102 rfl g ls st h k s
theorem r102_13 (σ : Nat → Value) (g : aG) (ls st : List Value) (h : aH) (k s : Nat) : Rn (aLk T102 σ) g 13 ls st h k s = (i_iret .boolean) g (Rn (aLk T102 σ) g) ls st h k s := Rn.go mo102 rfl g ls st h k s
theorem r103_0 (σ : Nat → Value) (g : aG) (ls st : List Value) (h : aH) (k s : Nat) : Rn (aLk T103 σ) g 0 ls st h k s = (i_aload 1 1) g (Rn (aLk T103 σ) g) ls st h k s := Rn.go mo103 rfl g ls st h k s
theorem r103_1 (σ : Nat → Value) (g : aG) (ls st : List Value) (h : aH) (k s : Nat) : Rn (aLk T103 σ) g 1 ls st h k s = (i_op (o_int 0) 2) g (Rn (aLk T103 σ) g) ls st h k s := Rn.go mo103 rfl g ls st h k s
theorem r103_2 (σ : Nat → Value) (g : aG) (ls st : List Value) (h : aH) (k s : Nat) : Rn (aLk T103 σ) g 2 ls st h k s = (i_putf 8 5 .boolean 5) g (Rn (aLk T103 σ) g) ls st h k s := Rn.go mo103 rfl g ls st h k s
theorem r103_5 (σ : Nat → Value) (g : aG) (ls st : List Value) (h : aH) (k s : Nat) : Rn (aLk T103 σ) g 5 ls st h k s = (i_aload 1 6) g (Rn (aLk T103 σ) g) ls st h k s := Rn.go mo103 rfl g ls st h k s
theorem r103_6 (σ : Nat → Value) (g : aG) (ls st : List Value) (h : aH) (k s : Nat) : Rn (aLk T103 σ) g 6 ls st h k s = (i_null 258 9) g (Rn (aLk T103 σ) g) ls st h k s := Rn.go mo103 rfl g ls st h k s
theorem r103_9 (σ : Nat → Value) (g : aG) (ls st : List Value) (h : aH) (k s : Nat) : Rn (aLk T103 σ) g 9 ls st h k s = (i_aload 1 10) g (Rn (aLk T103 σ) g) ls st h k s := Rn.go mo103 rfl g ls st h k s
theorem r103_10 (σ : Nat → Value) (g : aG) (ls st : List Value) (h : aH) (k s : Nat) : Rn (aLk T103 σ) g 10 ls st h k s = (i_aload 0 11) g (Rn (aLk T103 σ) g) ls st h k s := Rn.go mo103 rfl g ls st h k s
theorem r103_11 (σ : Nat → Value) (g : aG) (ls st : List Value) (h : aH) (k s : Nat) : Rn (aLk T103 σ) g 11 ls st h k s = (i_getf 7 3 14) g (Rn (aLk T103 σ) g) ls st h k s := Rn.go mo103 rfl g ls st h k s
theorem r103_14 (σ : Nat → Value) (g : aG) (ls st : List Value) (h : aH) (k s : Nat) : Rn (aLk T103 σ) g 14 ls st h k s = (i_aeq 258 17) g (Rn (aLk T103 σ) g) ls st h k s := Rn.go mo103 rfl g ls st h k s
theorem r103_17 (σ : Nat → Value) (g : aG) (ls st : List Value) (h : aH) (k s : Nat) : Rn (aLk T103 σ) g 17 ls st h k s = (i_aload 1 18) g (Rn (aLk T103 σ) g) ls st h k s := Rn.go mo103 rfl g ls st h k s
theorem r103_18 (σ : Nat → Value) (g : aG) (ls st : List Value) (h : aH) (k s : Nat) : Rn (aLk T103 σ) g 18 ls st h k s = (i_getf 8 4 21) g (Rn (aLk T103 σ) g) ls st h k s := Rn.go mo103 rfl g ls st h k s
theorem r103_21 (σ : Nat → Value) (g : aG) (ls st : List Value) (h : aH) (k s : Nat) : Rn (aLk T103 σ) g 21 ls st h k s = (i_getf 8 5 24) g (Rn (aLk T103 σ) g) ls st h k s := Rn.go mo103 rfl g ls st h k s
theorem r103_24 (σ : Nat → Value) (g : aG) (ls st : List Value) (h : aH) (k s : Nat) : Rn (aLk T103 σ) g 24 ls st h k s = (i_ifne 258 27) g (Rn (aLk T103 σ) g) ls st h k s := Rn.go mo103 rfl g ls st h k s
theorem r103_27 (σ : Nat → Value) (g : aG) (ls st : List Value) (h : aH) (k s : Nat) : Rn (aLk T103 σ) g 27 ls st h k s = (i_aload 1 28) g (Rn (aLk T103 σ) g) ls st h k s := Rn.go mo103 rfl g ls st h k s
theorem r103_28 (σ : Nat → Value) (g : aG) (ls st : List Value) (h : aH) (k s : Nat) : Rn (aLk T103 σ) g 28 ls st h k s = (i_callS 107 1 [] 31) g (Rn (aLk T103 σ) g) ls st h k s := Rn.go mo103 rfl g ls st h k s
theorem r103_31 (σ : Nat → Value) (g : aG) (ls st : List Value) (h : aH) (k s : Nat) : Rn (aLk T103 σ) g 31 ls st h k s = (i_aload 1 32) g (Rn (aLk T103 σ) g) ls st h k s := Rn.go mo103 rfl g ls st h k s
theorem r103_32 (σ : Nat → Value) (g : aG) (ls st : List Value) (h : aH) (k s : Nat) : Rn (aLk T103 σ) g 32 ls st h k s = (i_callS 107 1 [] 35) g (Rn (aLk T103 σ) g) ls st h k s := Rn.go mo103 rfl g ls st h k s
theorem r103_35 (σ : Nat → Value) (g : aG) (ls st : List Value) (h : aH) (k s : Nat) : Rn (aLk T103 σ) g 35 ls st h k s = (i_callS 107 1 [] 38) g (Rn (aLk T103 σ) g) ls st h k s := Rn.go mo103 rfl g ls st h k s
theorem r103_38 (σ : Nat → Value) (g : aG) (ls st : List Value) (h : aH) (k s : Nat) : Rn (aLk T103 σ) g 38 ls st h k s = (i_callS 106 1 [] 41) g (Rn (aLk T103 σ) g) ls st h k s := Rn.go mo103 rfl g ls st h k s
theorem r103_41 (σ : Nat → Value) (g : aG) (ls st : List Value) (h : aH) (k s : Nat) : Rn (aLk T103 σ) g 41 ls st h k s = (i_ane 151 44) g (Rn (aLk T103 σ) g) ls st h k s := Rn.go mo103 rfl g ls st h k s
theorem r103_44 (σ : Nat → Value) (g : aG) (ls st : List Value) (h : aH) (k s : Nat) : Rn (aLk T103 σ) g 44 ls st h k s = (i_aload 1 45) g (Rn (aLk T103 σ) g) ls st h k s := Rn.go mo103 rfl g ls st h k s
theorem r103_45 (σ : Nat → Value) (g : aG) (ls st : List Value) (h : aH) (k s : Nat) : Rn (aLk T103 σ) g 45 ls st h k s = (i_callS 107 1 [] 48) g (Rn (aLk T103 σ) g) ls st h k s := Rn.go mo103 rfl g ls st h k s
theorem r103_48 (σ : Nat → Value) (g : aG) (ls st : List Value) (h : aH) (k s : Nat) : Rn (aLk T103 σ) g 48 ls st h k s = (i_callS 107 1 [] 51) g (Rn (aLk T103 σ) g) ls st h k s := Rn.go mo103 rfl g ls st h k s
theorem r103_51 (σ : Nat → Value) (g : aG) (ls st : List Value) (h : aH) (k s : Nat) : Rn (aLk T103 σ) g 51 ls st h k s = (i_callS 110 1 [] 54) g (Rn (aLk T103 σ) g) ls st h k s := Rn.go mo103 rfl g ls st h k s
theorem r103_54 (σ : Nat → Value) (g : aG) (ls st : List Value) (h : aH) (k s : Nat) : Rn (aLk T103 σ) g 54 ls st h k s = (i_astore 2 55) g (Rn (aLk T103 σ) g) ls st h k s := Rn.go mo103 rfl g ls st h k s
theorem r103_55 (σ : Nat → Value) (g : aG) (ls st : List Value) (h : aH) (k s : Nat) : Rn (aLk T103 σ) g 55 ls st h k s = (i_aload 2 56) g (Rn (aLk T103 σ) g) ls st h k s := Rn.go mo103 rfl g ls st h k s
theorem r103_56 (σ : Nat → Value) (g : aG) (ls st : List Value) (h : aH) (k s : Nat) : Rn (aLk T103 σ) g 56 ls st h k s = (i_callS 100 1 [] 59) g (Rn (aLk T103 σ) g) ls st h k s := Rn.go mo103 rfl g ls st h k s
theorem r103_59 (σ : Nat → Value) (g : aG) (ls st : List Value) (h : aH) (k s : Nat) : Rn (aLk T103 σ) g 59 ls st h k s = (i_ifne 97 62) g (Rn (aLk T103 σ) g) ls st h k s := Rn.go mo103 rfl g ls st h k s
theorem r103_62 (σ : Nat → Value) (g : aG) (ls st : List Value) (h : aH) (k s : Nat) : Rn (aLk T103 σ) g 62 ls st h k s = (i_aload 1 63) g (Rn (aLk T103 σ) g) ls st h k s := Rn.go mo103 rfl g ls st h k s
theorem r103_63 (σ : Nat → Value) (g : aG) (ls st : List Value) (h : aH) (k s : Nat) : Rn (aLk T103 σ) g 63 ls st h k s = (i_callS 107 1 [] 66) g (Rn (aLk T103 σ) g) ls st h k s := Rn.go mo103 rfl g ls st h k s
theorem r103_66 (σ : Nat → Value) (g : aG) (ls st : List Value) (h : aH) (k s : Nat) : Rn (aLk T103 σ) g 66 ls st h k s = (i_op (o_int 1) 67) g (Rn (aLk T103 σ) g) ls st h k s := Rn.go mo103 rfl g ls st h k s
theorem r103_67 (σ : Nat → Value) (g : aG) (ls st : List Value) (h : aH) (k s : Nat) : Rn (aLk T103 σ) g 67 ls st h k s = (i_callS 113 2 [] 70) g (Rn (aLk T103 σ) g) ls st h k s := Rn.go mo103 rfl g ls st h k s
theorem r103_70 (σ : Nat → Value) (g : aG) (ls st : List Value) (h : aH) (k s : Nat) : Rn (aLk T103 σ) g 70 ls st h k s = (i_aload 2 71) g (Rn (aLk T103 σ) g) ls st h k s := Rn.go mo103 rfl g ls st h k s
theorem r103_71 (σ : Nat → Value) (g : aG) (ls st : List Value) (h : aH) (k s : Nat) : Rn (aLk T103 σ) g 71 ls st h k s = (i_op (o_int 1) 72) g (Rn (aLk T103 σ) g) ls st h k s := Rn.go mo103 rfl g ls st h k s
theorem r103_72 (σ : Nat → Value) (g : aG) (ls st : List Value) (h : aH) (k s : Nat) : Rn (aLk T103 σ) g 72 ls st h k s = (i_callS 113 2 [] 75) g (Rn (aLk T103 σ) g) ls st h k s := Rn.go mo103 rfl g ls st h k s
theorem r103_75 (σ : Nat → Value) (g : aG) (ls st : List Value) (h : aH) (k s : Nat) : Rn (aLk T103 σ) g 75 ls st h k s = (i_aload 1 76) g (Rn (aLk T103 σ) g) ls st h k s := Rn.go mo103 rfl g ls st h k s
theorem r103_76 (σ : Nat → Value) (g : aG) (ls st : List Value) (h : aH) (k s : Nat) : Rn (aLk T103 σ) g 76 ls st h k s = (i_callS 107 1 [] 79) g (Rn (aLk T103 σ) g) ls st h k s := Rn.go mo103 rfl g ls st h k s
theorem r103_79 (σ : Nat → Value) (g : aG) (ls st : List Value) (h : aH) (k s : Nat) : Rn (aLk T103 σ) g 79 ls st h k s = (i_callS 107 1 [] 82) g (Rn (aLk T103 σ) g) ls st h k s := Rn.go mo103 rfl g ls st h k s
theorem r103_82 (σ : Nat → Value) (g : aG) (ls st : List Value) (h : aH) (k s : Nat) : Rn (aLk T103 σ) g 82 ls st h k s = (i_op (o_int 0) 83) g (Rn (aLk T103 σ) g) ls st h k s := Rn.go mo103 rfl g ls st h k s
theorem r103_83 (σ : Nat → Value) (g : aG) (ls st : List Value) (h : aH) (k s : Nat) : Rn (aLk T103 σ) g 83 ls st h k s = (i_callS 113 2 [] 86) g (Rn (aLk T103 σ) g) ls st h k s := Rn.go mo103 rfl g ls st h k s
theorem r103_86 (σ : Nat → Value) (g : aG) (ls st : List Value) (h : aH) (k s : Nat) : Rn (aLk T103 σ) g 86 ls st h k s = (i_aload 1 87) g (Rn (aLk T103 σ) g) ls st h k s := Rn.go mo103 rfl g ls st h k s
theorem r103_87 (σ : Nat → Value) (g : aG) (ls st : List Value) (h : aH) (k s : Nat) : Rn (aLk T103 σ) g 87 ls st h k s = (i_callS 107 1 [] 90) g (Rn (aLk T103 σ) g) ls st h k s := Rn.go mo103 rfl g ls st h k s
theorem r103_90 (σ : Nat → Value) (g : aG) (ls st : List Value) (h : aH) (k s : Nat) : Rn (aLk T103 σ) g 90 ls st h k s = (i_callS 107 1 [] 93) g (Rn (aLk T103 σ) g) ls st h k s := Rn.go mo103 rfl g ls st h k s
theorem r103_93 (σ : Nat → Value) (g : aG) (ls st : List Value) (h : aH) (k s : Nat) : Rn (aLk T103 σ) g 93 ls st h k s = (i_astore 1 94) g (Rn (aLk T103 σ) g) ls st h k s := Rn.go mo103 rfl g ls st h k s
theorem r103_94 (σ : Nat → Value) (g : aG) (ls st : List Value) (h : aH) (k s : Nat) : Rn (aLk T103 σ) g 94 ls st h k s = (i_goto 148) g (Rn (aLk T103 σ) g) ls st h k s := Rn.go mo103 rfl g ls st h k s
theorem r103_97 (σ : Nat → Value) (g : aG) (ls st : List Value) (h : aH) (k s : Nat) : Rn (aLk T103 σ) g 97 ls st h k s = (i_aload 1 98) g (Rn (aLk T103 σ) g) ls st h k s := Rn.go mo103 rfl g ls st h k s
theorem r103_98 (σ : Nat → Value) (g : aG) (ls st : List Value) (h : aH) (k s : Nat) : Rn (aLk T103 σ) g 98 ls st h k s = (i_aload 1 99) g (Rn (aLk T103 σ) g) ls st h k s := Rn.go mo103 rfl g ls st h k s
theorem r103_99 (σ : Nat → Value) (g : aG) (ls st : List Value) (h : aH) (k s : Nat) : Rn (aLk T103 σ) g 99 ls st h k s = (i_callS 107 1 [] 102) g (Rn (aLk T103 σ) g) ls st h k s := Rn.go mo103 rfl g ls st h k s
theorem r103_102 (σ : Nat → Value) (g : aG) (ls st : List Value) (h : aH) (k s : Nat) : Rn (aLk T103 σ) g 102 ls st h k s = (i_callS 110 1 [] 105) g (Rn (aLk T103 σ) g) ls st h k s := Rn.go mo103 rfl g ls st h k s
theorem r103_105 (σ : Nat → Value) (g : aG) (ls st : List Value) (h : aH) (k s : Nat) : Rn (aLk T103 σ) g 105 ls st h k s = (i_ane 118 108) g (Rn (aLk T103 σ) g) ls st h k s := Rn.go mo103 rfl g ls st h k s
theorem r103_108 (σ : Nat → Value) (g : aG) (ls st : List Value) (h : aH) (k s : Nat) : Rn (aLk T103 σ) g 108 ls st h k s = (i_aload 1 109) g (Rn (aLk T103 σ) g) ls st h k s := Rn.go mo103 rfl g ls st h k s
theorem r103_109 (σ : Nat → Value) (g : aG) (ls st : List Value) (h : aH) (k s : Nat) : Rn (aLk T103 σ) g 109 ls st h k s = (i_callS 107 1 [] 112) g (Rn (aLk T103 σ) g) ls st h k s := Rn.go mo103 rfl g ls st h k s
theorem r103_112 (σ : Nat → Value) (g : aG) (ls st : List Value) (h : aH) (k s : Nat) : Rn (aLk T103 σ) g 112 ls st h k s = (i_astore 1 113) g (Rn (aLk T103 σ) g) ls st h k s := Rn.go mo103 rfl g ls st h k s
theorem r103_113 (σ : Nat → Value) (g : aG) (ls st : List Value) (h : aH) (k s : Nat) : Rn (aLk T103 σ) g 113 ls st h k s = (i_aload 0 114) g (Rn (aLk T103 σ) g) ls st h k s := Rn.go mo103 rfl g ls st h k s
theorem r103_114 (σ : Nat → Value) (g : aG) (ls st : List Value) (h : aH) (k s : Nat) : Rn (aLk T103 σ) g 114 ls st h k s = (i_aload 1 115) g (Rn (aLk T103 σ) g) ls st h k s := Rn.go mo103 rfl g ls st h k s
theorem r103_115 (σ : Nat → Value) (g : aG) (ls st : List Value) (h : aH) (k s : Nat) : Rn (aLk T103 σ) g 115 ls st h k s = (i_callV [(7, 111)] 1 [] 118) g (Rn (aLk T103 σ) g) ls st h k s := Rn.go mo103 rfl g ls st h k s
theorem r103_118 (σ : Nat → Value) (g : aG) (ls st : List Value) (h : aH) (k s : Nat) : Rn (aLk T103 σ) g 118 ls st h k s = (i_aload 1 119) g (Rn (aLk T103 σ) g) ls st h k s := Rn.go mo103 rfl g ls st h k s
theorem r103_119 (σ : Nat → Value) (g : aG) (ls st : List Value) (h : aH) (k s : Nat) : Rn (aLk T103 σ) g 119 ls st h k s = (i_callS 107 1 [] 122) g (Rn (aLk T103 σ) g) ls st h k s := Rn.go mo103 rfl g ls st h k s
theorem r103_122 (σ : Nat → Value) (g : aG) (ls st : List Value) (h : aH) (k s : Nat) : Rn (aLk T103 σ) g 122 ls st h k s = (i_op (o_int 1) 123) g (Rn (aLk T103 σ) g) ls st h k s := Rn.go mo103 rfl g ls st h k s
theorem r103_123 (σ : Nat → Value) (g : aG) (ls st : List Value) (h : aH) (k s : Nat) : Rn (aLk T103 σ) g 123 ls st h k s = (i_callS 113 2 [] 126) g (Rn (aLk T103 σ) g) ls st h k s := Rn.go mo103 rfl g ls st h k s
theorem r103_126 (σ : Nat → Value) (g : aG) (ls st : List Value) (h : aH) (k s : Nat) : Rn (aLk T103 σ) g 126 ls st h k s = (i_aload 1 127) g (Rn (aLk T103 σ) g) ls st h k s := Rn.go mo103 rfl g ls st h k s
theorem r103_127 (σ : Nat → Value) (g : aG) (ls st : List Value) (h : aH) (k s : Nat) : Rn (aLk T103 σ) g 127 ls st h k s = (i_callS 107 1 [] 130) g (Rn (aLk T103 σ) g) ls st h k s := Rn.go mo103 rfl g ls st h k s
theorem r103_130 (σ : Nat → Value) (g : aG) (ls st : List Value) (h : aH) (k s : Nat) : Rn (aLk T103 σ) g 130 ls st h k s = (i_callS 107 1 [] 133) g (Rn (aLk T103 σ) g) ls st h k s := Rn.go mo103 rfl g ls st h k s
theorem r103_133 (σ : Nat → Value) (g : aG) (ls st : List Value) (h : aH) (k s : Nat) : Rn (aLk T103 σ) g 133 ls st h k s = (i_op (o_int 0) 134) g (Rn (aLk T103 σ) g) ls st h k s := Rn.go mo103 rfl g ls st h k s
theorem r103_134 (σ : Nat → Value) (g : aG) (ls st : List Value) (h : aH) (k s : Nat) : Rn (aLk T103 σ) g 134 ls st h k s = (i_callS 113 2 [] 137) g (Rn (aLk T103 σ) g) ls st h k s := Rn.go mo103 rfl g ls st h k s
theorem r103_137 (σ : Nat → Value) (g : aG) (ls st : List Value) (h : aH) (k s : Nat) : Rn (aLk T103 σ) g 137 ls st h k s = (i_aload 0 138) g (Rn (aLk T103 σ) g) ls st h k s := Rn.go mo103 rfl g ls st h k s
theorem r103_138 (σ : Nat → Value) (g : aG) (ls st : List Value) (h : aH) (k s : Nat) : Rn (aLk T103 σ) g 138 ls st h k s = (i_aload 1 139) g (Rn (aLk T103 σ) g) ls st h k s := Rn.go mo103 rfl g ls st h k s
theorem r103_139 (σ : Nat → Value) (g : aG) (ls st : List Value) (h : aH) (k s : Nat) : Rn (aLk T103 σ) g 139 ls st h k s = (i_callS 107 1 [] 142) g (Rn (aLk T103 σ) g) ls st h k s := Rn.go mo103 rfl g ls st h k s
theorem r103_142 (σ : Nat → Value) (g : aG) (ls st : List Value) (h : aH) (k s : Nat) : Rn (aLk T103 σ) g 142 ls st h k s = (i_callS 107 1 [] 145) g (Rn (aLk T103 σ) g) ls st h k s := Rn.go mo103 rfl g ls st h k s
theorem r103_145 (σ : Nat → Value) (g : aG) (ls st : List Value) (h : aH) (k s : Nat) : Rn (aLk T103 σ) g 145 ls st h k s = (i_callV [(7, 112)] 1 [] 148) g (Rn (aLk T103 σ) g) ls st h k s := Rn.go mo103 rfl g ls st h k s
theorem r103_148 (σ : Nat → Value) (g : aG) (ls st : List Value) (h : aH) (k s : Nat) : Rn (aLk T103 σ) g 148 ls st h k s = (i_goto 5) g (Rn (aLk T103 σ) g) ls st h k s := Rn.go mo103 rfl g ls st h k s
theorem r103_151 (σ : Nat → Value) (g : aG) (ls st : List Value) (h : aH) (k s : Nat) : Rn (aLk T103 σ) g 151 ls st h k s = (i_aload 1 152) g (Rn (aLk T103 σ) g) ls st h k s := Rn.go mo103 rfl g ls st h k s
theorem r103_152 (σ : Nat → Value) (g : aG) (ls st : List Value) (h : aH) (k s : Nat) : Rn (aLk T103 σ) g 152 ls st h k s = (i_callS 107 1 [] 155) g (Rn (aLk T103 σ) g) ls st h k s := Rn.go mo103 rfl g ls st h k s
theorem r103_155 (σ : Nat → Value) (g : aG) (ls st : List Value) (h : aH) (k s : Nat) : Rn (aLk T103 σ) g 155 ls st h k s = (i_callS 107 1 [] 158) g (Rn (aLk T103 σ) g) ls st h k s := Rn.go mo103 rfl g ls st h k s
theorem r103_158 (σ : Nat → Value) (g : aG) (ls st : List Value) (h : aH) (k s : Nat) : Rn (aLk T103 σ) g 158 ls st h k s = (i_callS 106 1 [] 161) g (Rn (aLk T103 σ) g) ls st h k s := Rn.go mo103 rfl g ls st h k s
theorem r103_161 (σ : Nat → Value) (g : aG) (ls st : List Value) (h : aH) (k s : Nat) : Rn (aLk T103 σ) g 161 ls st h k s = (i_astore 2 162) g (Rn (aLk T103 σ) g) ls st h k s := Rn.go mo103 rfl g ls st h k s
theorem r103_162 (σ : Nat → Value) (g : aG) (ls st : List Value) (h : aH) (k s : Nat) : Rn (aLk T103 σ) g 162 ls st h k s = (i_aload 2 163) g (Rn (aLk T103 σ) g) ls st h k s := Rn.go mo103 rfl g ls st h k s
theorem r103_163 (σ : Nat → Value) (g : aG) (ls st : List Value) (h : aH) (k s : Nat) : Rn (aLk T103 σ) g 163 ls st h k s = (i_callS 100 1 [] 166) g (Rn (aLk T103 σ) g) ls st h k s := Rn.go mo103 rfl g ls st h k s
theorem r103_166 (σ : Nat → Value) (g : aG) (ls st : List Value) (h : aH) (k s : Nat) : Rn (aLk T103 σ) g 166 ls st h k s = (i_ifne 204 169) g (Rn (aLk T103 σ) g) ls st h k s := Rn.go mo103 rfl g ls st h k s
theorem r103_169 (σ : Nat → Value) (g : aG) (ls st : List Value) (h : aH) (k s : Nat) : Rn (aLk T103 σ) g 169 ls st h k s = (i_aload 1 170) g (Rn (aLk T103 σ) g) ls st h k s := Rn.go mo103 rfl g ls st h k s
theorem r103_170 (σ : Nat → Value) (g : aG) (ls st : List Value) (h : aH) (k s : Nat) : Rn (aLk T103 σ) g 170 ls st h k s = (i_callS 107 1 [] 173) g (Rn (aLk T103 σ) g) ls st h k s := Rn.go mo103 rfl g ls st h k s
theorem r103_173 (σ : Nat → Value) (g : aG) (ls st : List Value) (h : aH) (k s : Nat) : Rn (aLk T103 σ) g 173 ls st h k s = (i_op (o_int 1) 174) g (Rn (aLk T103 σ) g) ls st h k s := Rn.go mo103 rfl g ls st h k s
theorem r103_174 (σ : Nat → Value) (g : aG) (ls st : List Value) (h : aH) (k s : Nat) : Rn (aLk T103 σ) g 174 ls st h k s = (i_callS 113 2 [] 177) g (Rn (aLk T103 σ) g) ls st h k s := Rn.go mo103 rfl g ls st h k s
theorem r103_177 (σ : Nat → Value) (g : aG) (ls st : List Value) (h : aH) (k s : Nat) : Rn (aLk T103 σ) g 177 ls st h k s = (i_aload 2 178) g (Rn (aLk T103 σ) g) ls st h k s := Rn.go mo103 rfl g ls st h k s
theorem r103_178 (σ : Nat → Value) (g : aG) (ls st : List Value) (h : aH) (k s : Nat) : Rn (aLk T103 σ) g 178 ls st h k s = (i_op (o_int 1) 179) g (Rn (aLk T103 σ) g) ls st h k s := Rn.go mo103 rfl g ls st h k s
theorem r103_179 (σ : Nat → Value) (g : aG) (ls st : List Value) (h : aH) (k s : Nat) : Rn (aLk T103 σ) g 179 ls st h k s = (i_callS 113 2 [] 182) g (Rn (aLk T103 σ) g) ls st h k s := Rn.go mo103 rfl g ls st h k s
theorem r103_182 (σ : Nat → Value) (g : aG) (ls st : List Value) (h : aH) (k s : Nat) : Rn (aLk T103 σ) g 182 ls st h k s = (i_aload 1 183) g (Rn (aLk T103 σ) g) ls st h k s := Rn.go mo103 rfl g ls st h k s
theorem r103_183 (σ : Nat → Value) (g : aG) (ls st : List Value) (h : aH) (k s : Nat) : Rn (aLk T103 σ) g 183 ls st h k s = (i_callS 107 1 [] 186) g (Rn (aLk T103 σ) g) ls st h k s := Rn.go mo103 rfl g ls st h k s
theorem r103_186 (σ : Nat → Value) (g : aG) (ls st : List Value) (h : aH) (k s : Nat) : Rn (aLk T103 σ) g 186 ls st h k s = (i_callS 107 1 [] 189) g (Rn (aLk T103 σ) g) ls st h k s := Rn.go mo103 rfl g ls st h k s
theorem r103_189 (σ : Nat → Value) (g : aG) (ls st : List Value) (h : aH) (k s : Nat) : Rn (aLk T103 σ) g 189 ls st h k s = (i_op (o_int 0) 190) g (Rn (aLk T103 σ) g) ls st h k s := Rn.go mo103 rfl g ls st h k s
theorem r103_190 (σ : Nat → Value) (g : aG) (ls st : List Value) (h : aH) (k s : Nat) : Rn (aLk T103 σ) g 190 ls st h k s = (i_callS 113 2 [] 193) g (Rn (aLk T103 σ) g) ls st h k s := Rn.go mo103 rfl g ls st h k s
theorem r103_193 (σ : Nat → Value) (g : aG) (ls st : List Value) (h : aH) (k s : Nat) : Rn (aLk T103 σ) g 193 ls st h k s = (i_aload 1 194) g (Rn (aLk T103 σ) g) ls st h k s := Rn.go mo103 rfl g ls st h k s
theorem r103_194 (σ : Nat → Value) (g : aG) (ls st : List Value) (h : aH) (k s : Nat) : Rn (aLk T103 σ) g 194 ls st h k s = (i_callS 107 1 [] 197) g (Rn (aLk T103 σ) g) ls st h k s := Rn.go mo103 rfl g ls st h k s
theorem r103_197 (σ : Nat → Value) (g : aG) (ls st : List Value) (h : aH) (k s : Nat) : Rn (aLk T103 σ) g 197 ls st h k s = (i_callS 107 1 [] 200) g (Rn (aLk T103 σ) g) ls st h k s := Rn.go mo103 rfl g ls st h k s
theorem r103_200 (σ : Nat → Value) (g : aG) (ls st : List Value) (h : aH) (k s : Nat) : Rn (aLk T103 σ) g 200 ls st h k s = (i_astore 1 201) g (Rn (aLk T103 σ) g) ls st h k s := Rn.go mo103 rfl g ls st h k s
theorem r103_201 (σ : Nat → Value) (g : aG) (ls st : List Value) (h : aH) (k s : Nat) : Rn (aLk T103 σ) g 201 ls st h k s = (i_goto 255) g (Rn (aLk T103 σ) g) ls st h k s := Rn.go mo103 rfl g ls st h k s
theorem r103_204 (σ : Nat → Value) (g : aG) (ls st : List Value) (h : aH) (k s : Nat) : Rn (aLk T103 σ) g 204 ls st h k s = (i_aload 1 205) g (Rn (aLk T103 σ) g) ls st h k s := Rn.go mo103 rfl g ls st h k s
theorem r103_205 (σ : Nat → Value) (g : aG) (ls st : List Value) (h : aH) (k s : Nat) : Rn (aLk T103 σ) g 205 ls st h k s = (i_aload 1 206) g (Rn (aLk T103 σ) g) ls st h k s := Rn.go mo103 rfl g ls st h k s
theorem r103_206 (σ : Nat → Value) (g : aG) (ls st : List Value) (h : aH) (k s : Nat) : Rn (aLk T103 σ) g 206 ls st h k s = (i_callS 107 1 [] 209) g (Rn (aLk T103 σ) g) ls st h k s := Rn.go mo103 rfl g ls st h k s
theorem r103_209 (σ : Nat → Value) (g : aG) (ls st : List Value) (h : aH) (k s : Nat) : Rn (aLk T103 σ) g 209 ls st h k s = (i_callS 106 1 [] 212) g (Rn (aLk T103 σ) g) ls st h k s := Rn.go mo103 rfl g ls st h k s
theorem r103_212 (σ : Nat → Value) (g : aG) (ls st : List Value) (h : aH) (k s : Nat) : Rn (aLk T103 σ) g 212 ls st h k s = (i_ane 225 215) g (Rn (aLk T103 σ) g) ls st h k s := Rn.go mo103 rfl g ls st h k s
theorem r103_215 (σ : Nat → Value) (g : aG) (ls st : List Value) (h : aH) (k s : Nat) : Rn (aLk T103 σ) g 215 ls st h k s = (i_aload 1 216) g (Rn (aLk T103 σ) g) ls st h k s := Rn.go mo103 rfl g ls st h k s
theorem r103_216 (σ : Nat → Value) (g : aG) (ls st : List Value) (h : aH) (k s : Nat) : Rn (aLk T103 σ) g 216 ls st h k s = (i_callS 107 1 [] 219) g (Rn (aLk T103 σ) g) ls st h k s := Rn.go mo103 rfl g ls st h k s
theorem r103_219 (σ : Nat → Value) (g : aG) (ls st : List Value) (h : aH) (k s : Nat) : Rn (aLk T103 σ) g 219 ls st h k s = (i_astore 1 220) g (Rn (aLk T103 σ) g) ls st h k s := Rn.go mo103 rfl g ls st h k s
theorem r103_220 (σ : Nat → Value) (g : aG) (ls st : List Value) (h : aH) (k s : Nat) : Rn (aLk T103 σ) g 220 ls st h k s = (i_aload 0 221) g (Rn (aLk T103 σ) g) ls st h k s := Rn.go mo103 rfl g ls st h k s
theorem r103_221 (σ : Nat → Value) (g : aG) (ls st : List Value) (h : aH) (k s : Nat) : Rn (aLk T103 σ) g 221 ls st h k s = (i_aload 1 222) g (Rn (aLk T103 σ) g) ls st h k s := Rn.go mo103 rfl g ls st h k s
theorem r103_222 (σ : Nat → Value) (g : aG) (ls st : List Value) (h : aH) (k s : Nat) : Rn (aLk T103 σ) g 222 ls st h k s = (i_callV [(7, 112)] 1 [] 225) g (Rn (aLk T103 σ) g) ls st h k s := Rn.go mo103 rfl g ls st h k s
theorem r103_225 (σ : Nat → Value) (g : aG) (ls st : List Value) (h : aH) (k s : Nat) : Rn (aLk T103 σ) g 225 ls st h k s = (i_aload 1 226) g (Rn (aLk T103 σ) g) ls st h k s := Rn.go mo103 rfl g ls st h k s
theorem r103_226 (σ : Nat → Value) (g : aG) (ls st : List Value) (h : aH) (k s : Nat) : Rn (aLk T103 σ) g 226 ls st h k s = (i_callS 107 1 [] 229) g (Rn (aLk T103 σ) g) ls st h k s := Rn.go mo103 rfl g ls st h k s
theorem r103_229 (σ : Nat → Value) (g : aG) (ls st : List Value) (h : aH) (k s : Nat) : Rn (aLk T103 σ) g 229 ls st h k s = (i_op (o_int 1) 230) g (Rn (aLk T103 σ) g) ls st h k s := Rn.go mo103 rfl g ls st h k s
theorem r103_230 (σ : Nat → Value) (g : aG) (ls st : List Value) (h : aH) (k s : Nat) : Rn (aLk T103 σ) g 230 ls st h k s = (i_callS 113 2 [] 233) g (Rn (aLk T103 σ) g) ls st h k s := Rn.go mo103 rfl g ls st h k s
theorem r103_233 (σ : Nat → Value) (g : aG) (ls st : List Value) (h : aH) (k s : Nat) : Rn (aLk T103 σ) g 233 ls st h k s = (i_aload 1 234) g (Rn (aLk T103 σ) g) ls st h k s := Rn.go mo103 rfl g ls st h k s
theorem r103_234 (σ : Nat → Value) (g : aG) (ls st : List Value) (h : aH) (k s : Nat) : Rn (aLk T103 σ) g 234 ls st h k s = (i_callS 107 1 [] 237) g (Rn (aLk T103 σ) g) ls st h k s := Rn.go mo103 rfl g ls st h k s
theorem r103_237 (σ : Nat → Value) (g : aG) (ls st : List Value) (h : aH) (k s : Nat) : Rn (aLk T103 σ) g 237 ls st h k s = (i_callS 107 1 [] 240) g (Rn (aLk T103 σ) g) ls st h k s := Rn.go mo103 rfl g ls st h k s
theorem r103_240 (σ : Nat → Value) (g : aG) (ls st : List Value) (h : aH) (k s : Nat) : Rn (aLk T103 σ) g 240 ls st h k s = (i_op (o_int 0) 241) g (Rn (aLk T103 σ) g) ls st h k s := Rn.go mo103 rfl g ls st h k s
theorem r103_241 (σ : Nat → Value) (g : aG) (ls st : List Value) (h : aH) (k s : Nat) : Rn (aLk T103 σ) g 241 ls st h k s = (i_callS 113 2 [] 244) g (Rn (aLk T103 σ) g) ls st h k s := Rn.go mo103 rfl g ls st h k s
theorem r103_244 (σ : Nat → Value) (g : aG) (ls st : List Value) (h : aH) (k s : Nat) : Rn (aLk T103 σ) g 244 ls st h k s = (i_aload 0 245) g (Rn (aLk T103 σ) g) ls st h k s := Rn.go mo103 rfl g ls st h k s
theorem r103_245 (σ : Nat → Value) (g : aG) (ls st : List Value) (h : aH) (k s : Nat) : Rn (aLk T103 σ) g 245 ls st h k s = (i_aload 1 246) g (Rn (aLk T103 σ) g) ls st h k s := Rn.go mo103 rfl g ls st h k s
theorem r103_246 (σ : Nat → Value) (g : aG) (ls st : List Value) (h : aH) (k s : Nat) : Rn (aLk T103 σ) g 246 ls st h k s = (i_callS 107 1 [] 249) g (Rn (aLk T103 σ) g) ls st h k s := Rn.go mo103 rfl g ls st h k s
theorem r103_249 (σ : Nat → Value) (g : aG) (ls st : List Value) (h : aH) (k s : Nat) : Rn (aLk T103 σ) g 249 ls st h k s = (i_callS 107 1 [] 252) g (Rn (aLk T103 σ) g) ls st h k s := Rn.go mo103 rfl g ls st h k s
theorem r103_252 (σ : Nat → Value) (g : aG) (ls st : List Value) (h : aH) (k s : Nat) : Rn (aLk T103 σ) g 252 ls st h k s = (i_callV [(7, 111)] 1 [] 255) g (Rn (aLk T103 σ) g) ls st h k s := Rn.go mo103 rfl g ls st h k s
theorem r103_255 (σ : Nat → Value) (g : aG) (ls st : List Value) (h : aH) (k s : Nat) : Rn (aLk T103 σ) g 255 ls st h k s = (i_goto 5) g (Rn (aLk T103 σ) g) ls st h k s := Rn.go mo103 rfl g ls st h k s
theorem r103_258 (σ : Nat → Value) (g : aG) (ls st : List Value) (h : aH) (k s : Nat) : Rn (aLk T103 σ) g 258 ls st h k s = (i_aload 0 259) g (Rn (aLk T103 σ) g) ls st h k s := Rn.go mo103 rfl g ls st h k s
theorem r103_259 (σ : Nat → Value) (g : aG) (ls st : List Value) (h : aH) (k s : Nat) : Rn (aLk T103 σ) g 259 ls st h k s = (i_getf 7 3 262) g (Rn (aLk T103 σ) g) ls st h k s := Rn.go mo103 rfl g ls st h k s
theorem r103_262 (σ : Nat → Value) (g : aG) (ls st : List Value) (h : aH) (k s : Nat) : Rn (aLk T103 σ) g 262 ls st h k s = (i_op (o_int 1) 263) g (Rn (aLk T103 σ) g) ls st h k s := Rn.go mo103 rfl g ls st h k s
theorem r103_263 (σ : Nat → Value) (g : aG) (ls st : List Value) (h : aH) (k s : Nat) : Rn (aLk T103 σ) g 263 ls st h k s = (i_putf 8 5 .boolean 266) g (Rn (aLk T103 σ) g) ls st h k s := Rn.go mo103 rfl g ls st h k s
theorem r103_266 (σ : Nat → Value) (g : aG) (ls st : List Value) (h : aH) (k s : Nat) : Rn (aLk T103 σ) g 266 ls st h k s = (i_ret) g (Rn (aLk T103 σ) g) ls st h k s := Rn.go mo103 rfl g ls st h k s
theorem r104_0 (σ : Nat → Value) (g : aG) (ls st : List Value) (h : aH) (k s : Nat) : Rn (aLk T104 σ) g 0 ls st h k s = (i_aload 0 1) g (Rn (aLk T104 σ) g) ls st h k s := Rn.go mo104 rfl g ls st h k s
theorem r104_1 (σ : Nat → Value) (g : aG) (ls st : List Value) (h : aH) (k s : Nat) : Rn (aLk T104 σ) g 1 ls st h k s = (i_aload 1 2) g (Rn (aLk T104 σ) g) ls st h k s := Rn.go mo104 rfl g ls st h k s
theorem r104_2 (σ : Nat → Value) (g : aG) (ls st : List Value) (h : aH) (k s : Nat) : Rn (aLk T104 σ) g 2 ls st h k s = (i_callV [(7, 105)] 1 [] 5) g (Rn (aLk T104 σ) g) ls st h k s := Rn.go mo104 rfl g ls st h k s
theorem r104_5 (σ : Nat → Value) (g : aG) (ls st : List Value) (h : aH) (k s : Nat) : Rn (aLk T104 σ) g 5 ls st h k s = (i_astore 2 6) g (Rn (aLk T104 σ) g) ls st h k s := Rn.go mo104 rfl g ls st h k s
theorem r104_6 (σ : Nat → Value) (g : aG) (ls st : List Value) (h : aH) (k s : Nat) : Rn (aLk T104 σ) g 6 ls st h k s = (i_aload 2 7) g (Rn (aLk T104 σ) g) ls st h k s := Rn.go mo104 rfl g ls st h k s
theorem r104_7 (σ : Nat → Value) (g : aG) (ls st : List Value) (h : aH) (k s : Nat) : Rn (aLk T104 σ) g 7 ls st h k s = (i_nnull 14 10) g (Rn (aLk T104 σ) g) ls st h k s := Rn.go mo104 rfl g ls st h k s
theorem r104_10 (σ : Nat → Value) (g : aG) (ls st : List Value) (h : aH) (k s : Nat) : Rn (aLk T104 σ) g 10 ls st h k s = (i_op o_null 11) g (Rn (aLk T104 σ) g) ls st h k s := Rn.go mo104 rfl g ls st h k s
theorem r104_11 (σ : Nat → Value) (g : aG) (ls st : List Value) (h : aH) (k s : Nat) : Rn (aLk T104 σ) g 11 ls st h k s = (i_goto 18) g (Rn (aLk T104 σ) g) ls st h k s := Rn.go mo104 rfl g ls st h k s
theorem r104_14 (σ : Nat → Value) (g : aG) (ls st : List Value) (h : aH) (k s : Nat) : Rn (aLk T104 σ) g 14 ls st h k s = (i_aload 2 15) g (Rn (aLk T104 σ) g) ls st h k s := Rn.go mo104 rfl g ls st h k s
theorem r104_15 (σ : Nat → Value) (g : aG) (ls st : List Value) (h : aH) (k s : Nat) : Rn (aLk T104 σ) g 15 ls st h k s = (i_getf 8 1 18) g (Rn (aLk T104 σ) g) ls st h k s := Rn.go mo104 rfl g ls st h k s
theorem r104_18 (σ : Nat → Value) (g : aG) (ls st : List Value) (h : aH) (k s : Nat) : Rn (aLk T104 σ) g 18 ls st h k s = (i_aret) g (Rn (aLk T104 σ) g) ls st h k s := Rn.go mo104 rfl g ls st h k s
theorem r105_0 (σ : Nat → Value) (g : aG) (ls st : List Value) (h : aH) (k s : Nat) : Rn (aLk T105 σ) g 0 ls st h k s = (i_aload 0 1) g (Rn (aLk T105 σ) g) ls st h k s := Rn.go mo105 rfl g ls st h k s
theorem r105_1 (σ : Nat → Value) (g : aG) (ls st : List Value) (h : aH) (k s : Nat) : Rn (aLk T105 σ) g 1 ls st h k s = (i_getf 7 2 4) g (Rn (aLk T105 σ) g) ls st h k s := Rn.go mo105 rfl g ls st h k s
theorem r105_4 (σ : Nat → Value) (g : aG) (ls st : List Value) (h : aH) (k s : Nat) : Rn (aLk T105 σ) g 4 ls st h k s = (i_null 13 7) g (Rn (aLk T105 σ) g) ls st h k s := Rn.go mo105 rfl g ls st h k s
theorem r105_7 (σ : Nat → Value) (g : aG) (ls st : List Value) (h : aH) (k s : Nat) : Rn (aLk T105 σ) g 7 ls st h k s = (i_aload 0 8) g (Rn (aLk T105 σ) g) ls st h k s := Rn.go mo105 rfl g ls st h k s
theorem r105_8 (σ : Nat → Value) (g : aG) (ls st : List Value) (h : aH) (k s : Nat) : Rn (aLk T105 σ) g 8 ls st h k s = (i_aload 1 9) g (Rn (aLk T105 σ) g) ls st h k s := Rn.go mo105 rfl g ls st h k s
theorem r105_12 (σ : Nat → Value) (g : aG) (ls st : List Value) (h : aH) (k s : Nat) : Rn (aLk T105 σ) g 12 ls st h k s = (i_aret) g (Rn (aLk T105 σ) g) ls st h k s := Rn.go mo105 rfl g ls st h k s
theorem r105_13 (σ : Nat → Value) (g : aG) (ls st : List Value) (h : aH) (k s : Nat) : Rn (aLk T105 σ) g 13 ls st h k s = (i_aload 1 14) g (Rn (aLk T105 σ) g) ls st h k s := Rn.go mo105 rfl g ls st h k s
theorem r105_14 (σ : Nat → Value) (g : aG) (ls st : List Value) (h : aH) (k s : Nat) : Rn (aLk T105 σ) g 14 ls st h k s = (i_callS 87 1 [] 17) g (Rn (aLk T105 σ) g) ls st h k s := Rn.go mo105 rfl g ls st h k s
theorem r105_17 (σ : Nat → Value) (g : aG) (ls st : List Value) (h : aH) (k s : Nat) : Rn (aLk T105 σ) g 17 ls st h k s = (i_op o_pop 18) g (Rn (aLk T105 σ) g) ls st h k s := Rn.go mo105 rfl g ls st h k s
theorem r105_18 (σ : Nat → Value) (g : aG) (ls st : List Value) (h : aH) (k s : Nat) : Rn (aLk T105 σ) g 18 ls st h k s = (i_aload 1 19) g (Rn (aLk T105 σ) g) ls st h k s := Rn.go mo105 rfl g ls st h k s
theorem r105_19 (σ : Nat → Value) (g : aG) (ls st : List Value) (h : aH) (k s : Nat) : Rn (aLk T105 σ) g 19 ls st h k s = (i_cast [2, 3, 10, 16, 24, 1002, 1003, 1010] [] 22) g (Rn (aLk T105 σ) g) ls st h k s := Rn.go mo105 rfl g ls st h k s
theorem r105_22 (σ : Nat → Value) (g : aG) (ls st : List Value) (h : aH) (k s : Nat) : Rn (aLk T105 σ) g 22 ls st h k s = (i_astore 2 23) g (Rn (aLk T105 σ) g) ls st h k s := Rn.go mo105 rfl g ls st h k s
theorem r105_23 (σ : Nat → Value) (g : aG) (ls st : List Value) (h : aH) (k s : Nat) : Rn (aLk T105 σ) g 23 ls st h k s = (i_aload 0 24) g (Rn (aLk T105 σ) g) ls st h k s := Rn.go mo105 rfl g ls st h k s
theorem r105_24 (σ : Nat → Value) (g : aG) (ls st : List Value) (h : aH) (k s : Nat) : Rn (aLk T105 σ) g 24 ls st h k s = (i_getf 7 3 27) g (Rn (aLk T105 σ) g) ls st h k s := Rn.go mo105 rfl g ls st h k s
theorem r105_27 (σ : Nat → Value) (g : aG) (ls st : List Value) (h : aH) (k s : Nat) : Rn (aLk T105 σ) g 27 ls st h k s = (i_astore 3 28) g (Rn (aLk T105 σ) g) ls st h k s := Rn.go mo105 rfl g ls st h k s
theorem r105_28 (σ : Nat → Value) (g : aG) (ls st : List Value) (h : aH) (k s : Nat) : Rn (aLk T105 σ) g 28 ls st h k s = (i_aload 3 29) g (Rn (aLk T105 σ) g) ls st h k s := Rn.go mo105 rfl g ls st h k s
theorem r105_29 (σ : Nat → Value) (g : aG) (ls st : List Value) (h : aH) (k s : Nat) : Rn (aLk T105 σ) g 29 ls st h k s = (i_null 75 32) g (Rn (aLk T105 σ) g) ls st h k s := Rn.go mo105 rfl g ls st h k s
theorem r105_32 (σ : Nat → Value) (g : aG) (ls st : List Value) (h : aH) (k s : Nat) : Rn (aLk T105 σ) g 32 ls st h k s = (i_aload 2 33) g (Rn (aLk T105 σ) g) ls st h k s := Rn.go mo105 rfl g ls st h k s
theorem r105_33 (σ : Nat → Value) (g : aG) (ls st : List Value) (h : aH) (k s : Nat) : Rn (aLk T105 σ) g 33 ls st h k s = (i_aload 3 34) g (Rn (aLk T105 σ) g) ls st h k s := Rn.go mo105 rfl g ls st h k s
theorem r105_34 (σ : Nat → Value) (g : aG) (ls st : List Value) (h : aH) (k s : Nat) : Rn (aLk T105 σ) g 34 ls st h k s = (i_getf 8 0 37) g (Rn (aLk T105 σ) g) ls st h k s := Rn.go mo105 rfl g ls st h k s
theorem r105_37 (σ : Nat → Value) (g : aG) (ls st : List Value) (h : aH) (k s : Nat) : Rn (aLk T105 σ) g 37 ls st h k s = (i_callV [(2, 12), (24, 226), (16, 213), (1002, 12)] 1 [] 42) g (Rn (aLk T105 σ) g) ls st h k s := Rn.go mo105 rfl g ls st h k s
theorem r105_42 (σ : Nat → Value) (g : aG) (ls st : List Value) (h : aH) (k s : Nat) : Rn (aLk T105 σ) g 42 ls st h k s = (i_istore 4 44) g (Rn (aLk T105 σ) g) ls st h k s := Rn.go mo105 rfl g ls st h k s
theorem r105_44 (σ : Nat → Value) (g : aG) (ls st : List Value) (h : aH) (k s : Nat) : Rn (aLk T105 σ) g 44 ls st h k s = (i_iload 4 46) g (Rn (aLk T105 σ) g) ls st h k s := Rn.go mo105 rfl g ls st h k s
theorem r105_46 (σ : Nat → Value) (g : aG) (ls st : List Value) (h : aH) (k s : Nat) : Rn (aLk T105 σ) g 46 ls st h k s = (i_ifge 57 49) g (Rn (aLk T105 σ) g) ls st h k s := Rn.go mo105 rfl g ls st h k s
theorem r105_49 (σ : Nat → Value) (g : aG) (ls st : List Value) (h : aH) (k s : Nat) : Rn (aLk T105 σ) g 49 ls st h k s = (i_aload 3 50) g (Rn (aLk T105 σ) g) ls st h k s := Rn.go mo105 rfl g ls st h k s
theorem r105_50 (σ : Nat → Value) (g : aG) (ls st : List Value) (h : aH) (k s : Nat) : Rn (aLk T105 σ) g 50 ls st h k s = (i_getf 8 2 53) g (Rn (aLk T105 σ) g) ls st h k s := Rn.go mo105 rfl g ls st h k s
theorem r105_53 (σ : Nat → Value) (g : aG) (ls st : List Value) (h : aH) (k s : Nat) : Rn (aLk T105 σ) g 53 ls st h k s = (i_astore 3 54) g (Rn (aLk T105 σ) g) ls st h k s := Rn.go mo105 rfl g ls st h k s
theorem r105_54 (σ : Nat → Value) (g : aG) (ls st : List Value) (h : aH) (k s : Nat) : Rn (aLk T105 σ) g 54 ls st h k s = (i_goto 72) g (Rn (aLk T105 σ) g) ls st h k s := Rn.go mo105 rfl g ls st h k s
theorem r105_57 (σ : Nat → Value) (g : aG) (ls st : List Value) (h : aH) (k s : Nat) : Rn (aLk T105 σ) g 57 ls st h k s = (i_iload 4 59) g (Rn (aLk T105 σ) g) ls st h k s := Rn.go mo105 rfl g ls st h k s
theorem r105_59 (σ : Nat → Value) (g : aG) (ls st : List Value) (h : aH) (k s : Nat) : Rn (aLk T105 σ) g 59 ls st h k s = (i_ifle 70 62) g (Rn (aLk T105 σ) g) ls st h k s := Rn.go mo105 rfl g ls st h k s
theorem r105_62 (σ : Nat → Value) (g : aG) (ls st : List Value) (h : aH) (k s : Nat) : Rn (aLk T105 σ) g 62 ls st h k s = (i_aload 3 63) g (Rn (aLk T105 σ) g) ls st h k s := Rn.go mo105 rfl g ls st h k s
theorem r105_63 (σ : Nat → Value) (g : aG) (ls st : List Value) (h : aH) (k s : Nat) : Rn (aLk T105 σ) g 63 ls st h k s = (i_getf 8 3 66) g (Rn (aLk T105 σ) g) ls st h k s := Rn.go mo105 rfl g ls st h k s
theorem r105_66 (σ : Nat → Value) (g : aG) (ls st : List Value) (h : aH) (k s : Nat) : Rn (aLk T105 σ) g 66 ls st h k s = (i_astore 3 67) g (Rn (aLk T105 σ) g) ls st h k s := Rn.go mo105 rfl g ls st h k s
theorem r105_67 (σ : Nat → Value) (g : aG) (ls st : List Value) (h : aH) (k s : Nat) : Rn (aLk T105 σ) g 67 ls st h k s = (i_goto 72) g (Rn (aLk T105 σ) g) ls st h k s := Rn.go mo105 rfl g ls st h k s
theorem r105_70 (σ : Nat → Value) (g : aG) (ls st : List Value) (h : aH) (k s : Nat) : Rn (aLk T105 σ) g 70 ls st h k s = (i_aload 3 71) g (Rn (aLk T105 σ) g) ls st h k s := Rn.go mo105 rfl g ls st h k s
theorem r105_71 (σ : Nat → Value) (g : aG) (ls st : List Value) (h : aH) (k s : Nat) : Rn (aLk T105 σ) g 71 ls st h k s = (i_aret) g (Rn (aLk T105 σ) g) ls st h k s := Rn.go mo105 rfl g ls st h k s
theorem r105_72 (σ : Nat → Value) (g : aG) (ls st : List Value) (h : aH) (k s : Nat) : Rn (aLk T105 σ) g 72 ls st h k s = (i_goto 28) g (Rn (aLk T105 σ) g) ls st h k s := Rn.go mo105 rfl g ls st h k s
theorem r105_75 (σ : Nat → Value) (g : aG) (ls st : List Value) (h : aH) (k s : Nat) : Rn (aLk T105 σ) g 75 ls st h k s = (i_op o_null 76) g (Rn (aLk T105 σ) g) ls st h k s := Rn.go mo105 rfl g ls st h k s
theorem r105_76 (σ : Nat → Value) (g : aG) (ls st : List Value) (h : aH) (k s : Nat) : Rn (aLk T105 σ) g 76 ls st h k s = (i_aret) g (Rn (aLk T105 σ) g) ls st h k s := Rn.go mo105 rfl g ls st h k s
theorem r106_0 (σ : Nat → Value) (g : aG) (ls st : List Value) (h : aH) (k s : Nat) : Rn (aLk T106 σ) g 0 ls st h k s = (i_aload 0 1) g (Rn (aLk T106 σ) g) ls st h k s := Rn.go mo106 rfl g ls st h k s
theorem r106_1 (σ : Nat → Value) (g : aG) (ls st : List Value) (h : aH) (k s : Nat) : Rn (aLk T106 σ) g 1 ls st h k s = (i_nnull 8 4) g (Rn (aLk T106 σ) g) ls st h k s := Rn.go mo106 rfl g ls st h k s
theorem r106_4 (σ : Nat → Value) (g : aG) (ls st : List Value) (h : aH) (k s : Nat) : Rn (aLk T106 σ) g 4 ls st h k s = (i_op o_null 5) g (Rn (aLk T106 σ) g) ls st h k s := Rn.go mo106 rfl g ls st h k s
theorem r106_5 (σ : Nat → Value) (g : aG) (ls st : List Value) (h : aH) (k s : Nat) : Rn (aLk T106 σ) g 5 ls st h k s = (i_goto 12) g (Rn (aLk T106 σ) g) ls st h k s := Rn.go mo106 rfl g ls st h k s
theorem r106_8 (σ : Nat → Value) (g : aG) (ls st : List Value) (h : aH) (k s : Nat) : Rn (aLk T106 σ) g 8 ls st h k s = (i_aload 0 9) g (Rn (aLk T106 σ) g) ls st h k s := Rn.go mo106 rfl g ls st h k s
theorem r106_9 (σ : Nat → Value) (g : aG) (ls st : List Value) (h : aH) (k s : Nat) : Rn (aLk T106 σ) g 9 ls st h k s = (i_getf 8 2 12) g (Rn (aLk T106 σ) g) ls st h k s := Rn.go mo106 rfl g ls st h k s
theorem r106_12 (σ : Nat → Value) (g : aG) (ls st : List Value) (h : aH) (k s : Nat) : Rn (aLk T106 σ) g 12 ls st h k s = (i_aret) g (Rn (aLk T106 σ) g) ls st h k s := Rn.go mo106 rfl g ls st h k s
theorem r107_0 (σ : Nat → Value) (g : aG) (ls st : List Value) (h : aH) (k s : Nat) : Rn (aLk T107 σ) g 0 ls st h k s = (i_aload 0 1) g (Rn (aLk T107 σ) g) ls st h k s := Rn.go mo107 rfl g ls st h k s
theorem r107_1 (σ : Nat → Value) (g : aG) (ls st : List Value) (h : aH) (k s : Nat) : Rn (aLk T107 σ) g 1 ls st h k s = (i_nnull 8 4) g (Rn (aLk T107 σ) g) ls st h k s := Rn.go mo107 rfl g ls st h k s
theorem r107_4 (σ : Nat → Value) (g : aG) (ls st : List Value) (h : aH) (k s : Nat) : Rn (aLk T107 σ) g 4 ls st h k s = (i_op o_null 5) g (Rn (aLk T107 σ) g) ls st h k s := Rn.go mo107 rfl g ls st h k s
theorem r107_5 (σ : Nat → Value) (g : aG) (ls st : List Value) (h : aH) (k s : Nat) : Rn (aLk T107 σ) g 5 ls st h k s = (i_goto 12) g (Rn (aLk T107 σ) g) ls st h k s := Rn.go mo107 rfl g ls st h k s
theorem r107_8 (σ : Nat → Value) (g : aG) (ls st : List Value) (h : aH) (k s : Nat) : Rn (aLk T107 σ) g 8 ls st h k s = (i_aload 0 9) g (Rn (aLk T107 σ) g) ls st h k s := Rn.go mo107 rfl g ls st h k s
theorem r107_9 (σ : Nat → Value) (g : aG) (ls st : List Value) (h : aH) (k s : Nat) : Rn (aLk T107 σ) g 9 ls st h k s = (i_getf 8 4 12) g (Rn (aLk T107 σ) g) ls st h k s := Rn.go mo107 rfl g ls st h k s
theorem r107_12 (σ : Nat → Value) (g : aG) (ls st : List Value) (h : aH) (k s : Nat) : Rn (aLk T107 σ) g 12 ls st h k s = (i_aret) g (Rn (aLk T107 σ) g) ls st h k s := Rn.go mo107 rfl g ls st h k s
theorem r108_0 (σ : Nat → Value) (g : aG) (ls st : List Value) (h : aH) (k s : Nat) : Rn (aLk T108 σ) g 0 ls st h k s = (i_aload 0 1) g (Rn (aLk T108 σ) g) ls st h k s := Rn.go mo108 rfl g ls st h k s
theorem r108_1 (σ : Nat → Value) (g : aG) (ls st : List Value) (h : aH) (k s : Nat) : Rn (aLk T108 σ) g 1 ls st h k s = (i_aload 1 2) g (Rn (aLk T108 σ) g) ls st h k s := Rn.go mo108 rfl g ls st h k s
theorem r108_2 (σ : Nat → Value) (g : aG) (ls st : List Value) (h : aH) (k s : Nat) : Rn (aLk T108 σ) g 2 ls st h k s = (i_aload 2 3) g (Rn (aLk T108 σ) g) ls st h k s := Rn.go mo108 rfl g ls st h k s
theorem r108_3 (σ : Nat → Value) (g : aG) (ls st : List Value) (h : aH) (k s : Nat) : Rn (aLk T108 σ) g 3 ls st h k s = (i_op (o_int 1) 4) g (Rn (aLk T108 σ) g) ls st h k s := Rn.go mo108 rfl g ls st h k s
theorem r108_4 (σ : Nat → Value) (g : aG) (ls st : List Value) (h : aH) (k s : Nat) : Rn (aLk T108 σ) g 4 ls st h k s = (i_callV [(7, 109)] 3 [] 7) g (Rn (aLk T108 σ) g) ls st h k s := Rn.go mo108 rfl g ls st h k s
theorem r108_7 (σ : Nat → Value) (g : aG) (ls st : List Value) (h : aH) (k s : Nat) : Rn (aLk T108 σ) g 7 ls st h k s = (i_aret) g (Rn (aLk T108 σ) g) ls st h k s := Rn.go mo108 rfl g ls st h k s
theorem r109_0 (σ : Nat → Value) (g : aG) (ls st : List Value) (h : aH) (k s : Nat) : Rn (aLk T109 σ) g 0 ls st h k s = (i_aload 0 1) g (Rn (aLk T109 σ) g) ls st h k s := Rn.go mo109 rfl g ls st h k s
theorem r109_1 (σ : Nat → Value) (g : aG) (ls st : List Value) (h : aH) (k s : Nat) : Rn (aLk T109 σ) g 1 ls st h k s = (i_getf 7 3 4) g (Rn (aLk T109 σ) g) ls st h k s := Rn.go mo109 rfl g ls st h k s
theorem r109_4 (σ : Nat → Value) (g : aG) (ls st : List Value) (h : aH) (k s : Nat) : Rn (aLk T109 σ) g 4 ls st h k s = (i_astore 4 6) g (Rn (aLk T109 σ) g) ls st h k s := Rn.go mo109 rfl g ls st h k s
theorem r109_6 (σ : Nat → Value) (g : aG) (ls st : List Value) (h : aH) (k s : Nat) : Rn (aLk T109 σ) g 6 ls st h k s = (i_aload 4 8) g (Rn (aLk T109 σ) g) ls st h k s := Rn.go mo109 rfl g ls st h k s
theorem r109_8 (σ : Nat → Value) (g : aG) (ls st : List Value) (h : aH) (k s : Nat) : Rn (aLk T109 σ) g 8 ls st h k s = (i_nnull 19 11) g (Rn (aLk T109 σ) g) ls st h k s := Rn.go mo109 rfl g ls st h k s
theorem r109_11 (σ : Nat → Value) (g : aG) (ls st : List Value) (h : aH) (k s : Nat) : Rn (aLk T109 σ) g 11 ls st h k s = (i_aload 0 12) g (Rn (aLk T109 σ) g) ls st h k s := Rn.go mo109 rfl g ls st h k s
theorem r109_12 (σ : Nat → Value) (g : aG) (ls st : List Value) (h : aH) (k s : Nat) : Rn (aLk T109 σ) g 12 ls st h k s = (i_aload 1 13) g (Rn (aLk T109 σ) g) ls st h k s := Rn.go mo109 rfl g ls st h k s
theorem r109_13 (σ : Nat → Value) (g : aG) (ls st : List Value) (h : aH) (k s : Nat) : Rn (aLk T109 σ) g 13 ls st h k s = (i_aload 2 14) g (Rn (aLk T109 σ) g) ls st h k s := Rn.go mo109 rfl g ls st h k s
theorem r109_14 (σ : Nat → Value) (g : aG) (ls st : List Value) (h : aH) (k s : Nat) : Rn (aLk T109 σ) g 14 ls st h k s = (i_callV [(7, 99)] 2 [] 17) g (Rn (aLk T109 σ) g) ls st h k s := Rn.go mo109 rfl g ls st h k s
theorem r109_17 (σ : Nat → Value) (g : aG) (ls st : List Value) (h : aH) (k s : Nat) : Rn (aLk T109 σ) g 17 ls st h k s = (i_op o_null 18) g (Rn (aLk T109 σ) g) ls st h k s := Rn.go mo109 rfl g ls st h k s
theorem r109_18 (σ : Nat → Value) (g : aG) (ls st : List Value) (h : aH) (k s : Nat) : Rn (aLk T109 σ) g 18 ls st h k s = (i_aret) g (Rn (aLk T109 σ) g) ls st h k s := Rn.go mo109 rfl g ls st h k s
theorem r109_19 (σ : Nat → Value) (g : aG) (ls st : List Value) (h : aH) (k s : Nat) : Rn (aLk T109 σ) g 19 ls st h k s = (i_aload 0 20) g (Rn (aLk T109 σ) g) ls st h k s := Rn.go mo109 rfl g ls st h k s
theorem r109_20 (σ : Nat → Value) (g : aG) (ls st : List Value) (h : aH) (k s : Nat) : Rn (aLk T109 σ) g 20 ls st h k s = (i_getf 7 2 23) g (Rn (aLk T109 σ) g) ls st h k s := Rn.go mo109 rfl g ls st h k s
theorem r109_23 (σ : Nat → Value) (g : aG) (ls st : List Value) (h : aH) (k s : Nat) : Rn (aLk T109 σ) g 23 ls st h k s = (i_astore 7 25) g (Rn (aLk T109 σ) g) ls st h k s := Rn.go mo109 rfl g ls st h k s
theorem r109_25 (σ : Nat → Value) (g : aG) (ls st : List Value) (h : aH) (k s : Nat) : Rn (aLk T109 σ) g 25 ls st h k s = (i_aload 7 27) g (Rn (aLk T109 σ) g) ls st h k s := Rn.go mo109 rfl g ls st h k s
theorem r109_27 (σ : Nat → Value) (g : aG) (ls st : List Value) (h : aH) (k s : Nat) : Rn (aLk T109 σ) g 27 ls st h k s = (i_null 112 30) g (Rn (aLk T109 σ) g) ls st h k s := Rn.go mo109 rfl g ls st h k s
theorem r109_30 (σ : Nat → Value) (g : aG) (ls st : List Value) (h : aH) (k s : Nat) : Rn (aLk T109 σ) g 30 ls st h k s = (i_aload 4 32) g (Rn (aLk T109 σ) g) ls st h k s := Rn.go mo109 rfl g ls st h k s
theorem r109_32 (σ : Nat → Value) (g : aG) (ls st : List Value) (h : aH) (k s : Nat) : Rn (aLk T109 σ) g 32 ls st h k s = (i_astore 6 34) g (Rn (aLk T109 σ) g) ls st h k s := Rn.go mo109 rfl g ls st h k s
theorem r109_34 (σ : Nat → Value) (g : aG) (ls st : List Value) (h : aH) (k s : Nat) : Rn (aLk T109 σ) g 34 ls st h k s = (i_aload 7 36) g (Rn (aLk T109 σ) g) ls st h k s := Rn.go mo109 rfl g ls st h k s
theorem r109_36 (σ : Nat → Value) (g : aG) (ls st : List Value) (h : aH) (k s : Nat) : Rn (aLk T109 σ) g 36 ls st h k s = (i_aload 1 37) g (Rn (aLk T109 σ) g) ls st h k s := Rn.go mo109 rfl g ls st h k s
theorem r109_37 (σ : Nat → Value) (g : aG) (ls st : List Value) (h : aH) (k s : Nat) : Rn (aLk T109 σ) g 37 ls st h k s = (i_aload 4 39) g (Rn (aLk T109 σ) g) ls st h k s := Rn.go mo109 rfl g ls st h k s
theorem r109_39 (σ : Nat → Value) (g : aG) (ls st : List Value) (h : aH) (k s : Nat) : Rn (aLk T109 σ) g 39 ls st h k s = (i_getf 8 0 42) g (Rn (aLk T109 σ) g) ls st h k s := Rn.go mo109 rfl g ls st h k s
theorem r109_47 (σ : Nat → Value) (g : aG) (ls st : List Value) (h : aH) (k s : Nat) : Rn (aLk T109 σ) g 47 ls st h k s = (i_istore 5 49) g (Rn (aLk T109 σ) g) ls st h k s := Rn.go mo109 rfl g ls st h k s
theorem r109_49 (σ : Nat → Value) (g : aG) (ls st : List Value) (h : aH) (k s : Nat) : Rn (aLk T109 σ) g 49 ls st h k s = (i_iload 5 51) g (Rn (aLk T109 σ) g) ls st h k s := Rn.go mo109 rfl g ls st h k s
theorem r109_51 (σ : Nat → Value) (g : aG) (ls st : List Value) (h : aH) (k s : Nat) : Rn (aLk T109 σ) g 51 ls st h k s = (i_ifge 64 54) g (Rn (aLk T109 σ) g) ls st h k s := Rn.go mo109 rfl g ls st h k s
theorem r109_54 (σ : Nat → Value) (g : aG) (ls st : List Value) (h : aH) (k s : Nat) : Rn (aLk T109 σ) g 54 ls st h k s = (i_aload 4 56) g (Rn (aLk T109 σ) g) ls st h k s := Rn.go mo109 rfl g ls st h k s
theorem r109_56 (σ : Nat → Value) (g : aG) (ls st : List Value) (h : aH) (k s : Nat) : Rn (aLk T109 σ) g 56 ls st h k s = (i_getf 8 2 59) g (Rn (aLk T109 σ) g) ls st h k s := Rn.go mo109 rfl g ls st h k s
theorem r109_59 (σ : Nat → Value) (g : aG) (ls st : List Value) (h : aH) (k s : Nat) : Rn (aLk T109 σ) g 59 ls st h k s = (i_astore 4 61) g (Rn (aLk T109 σ) g) ls st h k s := Rn.go mo109 rfl g ls st h k s
theorem r109_61 (σ : Nat → Value) (g : aG) (ls st : List Value) (h : aH) (k s : Nat) : Rn (aLk T109 σ) g 61 ls st h k s = (i_goto 104) g (Rn (aLk T109 σ) g) ls st h k s := Rn.go mo109 rfl g ls st h k s
theorem r109_64 (σ : Nat → Value) (g : aG) (ls st : List Value) (h : aH) (k s : Nat) : Rn (aLk T109 σ) g 64 ls st h k s = (i_iload 5 66) g (Rn (aLk T109 σ) g) ls st h k s := Rn.go mo109 rfl g ls st h k s
theorem r109_66 (σ : Nat → Value) (g : aG) (ls st : List Value) (h : aH) (k s : Nat) : Rn (aLk T109 σ) g 66 ls st h k s = (i_ifle 79 69) g (Rn (aLk T109 σ) g) ls st h k s := Rn.go mo109 rfl g ls st h k s
theorem r109_69 (σ : Nat → Value) (g : aG) (ls st : List Value) (h : aH) (k s : Nat) : Rn (aLk T109 σ) g 69 ls st h k s = (i_aload 4 71) g (Rn (aLk T109 σ) g) ls st h k s := Rn.go mo109 rfl g ls st h k s
theorem r109_71 (σ : Nat → Value) (g : aG) (ls st : List Value) (h : aH) (k s : Nat) : Rn (aLk T109 σ) g 71 ls st h k s = (i_getf 8 3 74) g (Rn (aLk T109 σ) g) ls st h k s := Rn.go mo109 rfl g ls st h k s
theorem r109_74 (σ : Nat → Value) (g : aG) (ls st : List Value) (h : aH) (k s : Nat) : Rn (aLk T109 σ) g 74 ls st h k s = (i_astore 4 76) g (Rn (aLk T109 σ) g) ls st h k s := Rn.go mo109 rfl g ls st h k s
theorem r109_76 (σ : Nat → Value) (g : aG) (ls st : List Value) (h : aH) (k s : Nat) : Rn (aLk T109 σ) g 76 ls st h k s = (i_goto 104) g (Rn (aLk T109 σ) g) ls st h k s := Rn.go mo109 rfl g ls st h k s
theorem r109_79 (σ : Nat → Value) (g : aG) (ls st : List Value) (h : aH) (k s : Nat) : Rn (aLk T109 σ) g 79 ls st h k s = (i_aload 4 81) g (Rn (aLk T109 σ) g) ls st h k s := Rn.go mo109 rfl g ls st h k s
theorem r109_81 (σ : Nat → Value) (g : aG) (ls st : List Value) (h : aH) (k s : Nat) : Rn (aLk T109 σ) g 81 ls st h k s = (i_getf 8 1 84) g (Rn (aLk T109 σ) g) ls st h k s := Rn.go mo109 rfl g ls st h k s
theorem r109_84 (σ : Nat → Value) (g : aG) (ls st : List Value) (h : aH) (k s : Nat) : Rn (aLk T109 σ) g 84 ls st h k s = (i_astore 8 86) g (Rn (aLk T109 σ) g) ls st h k s := Rn.go mo109 rfl g ls st h k s
theorem r109_86 (σ : Nat → Value) (g : aG) (ls st : List Value) (h : aH) (k s : Nat) : Rn (aLk T109 σ) g 86 ls st h k s = (i_iload 3 87) g (Rn (aLk T109 σ) g) ls st h k s := Rn.go mo109 rfl g ls st h k s
theorem r109_87 (σ : Nat → Value) (g : aG) (ls st : List Value) (h : aH) (k s : Nat) : Rn (aLk T109 σ) g 87 ls st h k s = (i_ifne 95 90) g (Rn (aLk T109 σ) g) ls st h k s := Rn.go mo109 rfl g ls st h k s
theorem r109_90 (σ : Nat → Value) (g : aG) (ls st : List Value) (h : aH) (k s : Nat) : Rn (aLk T109 σ) g 90 ls st h k s = (i_aload 8 92) g (Rn (aLk T109 σ) g) ls st h k s := Rn.go mo109 rfl g ls st h k s
theorem r109_92 (σ : Nat → Value) (g : aG) (ls st : List Value) (h : aH) (k s : Nat) : Rn (aLk T109 σ) g 92 ls st h k s = (i_nnull 101 95) g (Rn (aLk T109 σ) g) ls st h k s := Rn.go mo109 rfl g ls st h k s
theorem r109_95 (σ : Nat → Value) (g : aG) (ls st : List Value) (h : aH) (k s : Nat) : Rn (aLk T109 σ) g 95 ls st h k s = (i_aload 4 97) g (Rn (aLk T109 σ) g) ls st h k s := Rn.go mo109 rfl g ls st h k s
theorem r109_97 (σ : Nat → Value) (g : aG) (ls st : List Value) (h : aH) (k s : Nat) : Rn (aLk T109 σ) g 97 ls st h k s = (i_aload 2 98) g (Rn (aLk T109 σ) g) ls st h k s := Rn.go mo109 rfl g ls st h k s
theorem r109_98 (σ : Nat → Value) (g : aG) (ls st : List Value) (h : aH) (k s : Nat) : Rn (aLk T109 σ) g 98 ls st h k s = (i_putf 8 1 (.object "java/lang/Object") 101) g (Rn (aLk T109 σ) g) ls st h k s := Rn.go mo109 rfl g ls st h k s
theorem r109_101 (σ : Nat → Value) (g : aG) (ls st : List Value) (h : aH) (k s : Nat) : Rn (aLk T109 σ) g 101 ls st h k s = (i_aload 8 103) g (Rn (aLk T109 σ) g) ls st h k s := Rn.go mo109 rfl g ls st h k s
theorem r109_103 (σ : Nat → Value) (g : aG) (ls st : List Value) (h : aH) (k s : Nat) : Rn (aLk T109 σ) g 103 ls st h k s = (i_aret) g (Rn (aLk T109 σ) g) ls st h k s := Rn.go mo109 rfl g ls st h k s
theorem r109_104 (σ : Nat → Value) (g : aG) (ls st : List Value) (h : aH) (k s : Nat) : Rn (aLk T109 σ) g 104 ls st h k s = (i_aload 4 106) g (Rn (aLk T109 σ) g) ls st h k s := Rn.go mo109 rfl g ls st h k s
theorem r109_106 (σ : Nat → Value) (g : aG) (ls st : List Value) (h : aH) (k s : Nat) : Rn (aLk T109 σ) g 106 ls st h k s = (i_nnull 30 109) g (Rn (aLk T109 σ) g) ls st h k s := Rn.go mo109 rfl g ls st h k s
theorem r109_109 (σ : Nat → Value) (g : aG) (ls st : List Value) (h : aH) (k s : Nat) : Rn (aLk T109 σ) g 109 ls st h k s = (i_goto 201) g (Rn (aLk T109 σ) g) ls st h k s := Rn.go mo109 rfl g ls st h k s
theorem r109_112 (σ : Nat → Value) (g : aG) (ls st : List Value) (h : aH) (k s : Nat) : Rn (aLk T109 σ) g 112 ls st h k s = (i_aload 1 113) g (Rn (aLk T109 σ) g) ls st h k s := Rn.go mo109 rfl g ls st h k s
theorem r109_113 (σ : Nat → Value) (g : aG) (ls st : List Value) (h : aH) (k s : Nat) : Rn (aLk T109 σ) g 113 ls st h k s = (i_callS 87 1 [] 116) g (Rn (aLk T109 σ) g) ls st h k s := Rn.go mo109 rfl g ls st h k s
theorem r109_116 (σ : Nat → Value) (g : aG) (ls st : List Value) (h : aH) (k s : Nat) : Rn (aLk T109 σ) g 116 ls st h k s = (i_op o_pop 117) g (Rn (aLk T109 σ) g) ls st h k s := Rn.go mo109 rfl g ls st h k s
theorem r109_117 (σ : Nat → Value) (g : aG) (ls st : List Value) (h : aH) (k s : Nat) : Rn (aLk T109 σ) g 117 ls st h k s = (i_aload 1 118) g (Rn (aLk T109 σ) g) ls st h k s := Rn.go mo109 rfl g ls st h k s
theorem r109_118 (σ : Nat → Value) (g : aG) (ls st : List Value) (h : aH) (k s : Nat) : Rn (aLk T109 σ) g 118 ls st h k s = (i_cast [2, 3, 10, 16, 24, 1002, 1003, 1010] [] 121) g (Rn (aLk T109 σ) g) ls st h k s := Rn.go mo109 rfl g ls st h k s
theorem r109_121 (σ : Nat → Value) (g : aG) (ls st : List Value) (h : aH) (k s : Nat) : Rn (aLk T109 σ) g 121 ls st h k s = (i_astore 8 123) g (Rn (aLk T109 σ) g) ls st h k s := Rn.go mo109 rfl g ls st h k s
theorem r109_123 (σ : Nat → Value) (g : aG) (ls st : List Value) (h : aH) (k s : Nat) : Rn (aLk T109 σ) g 123 ls st h k s = (i_aload 4 125) g (Rn (aLk T109 σ) g) ls st h k s := Rn.go mo109 rfl g ls st h k s
theorem r109_125 (σ : Nat → Value) (g : aG) (ls st : List Value) (h : aH) (k s : Nat) : Rn (aLk T109 σ) g 125 ls st h k s = (i_astore 6 127) g (Rn (aLk T109 σ) g) ls st h k s := Rn.go mo109 rfl g ls st h k s
theorem r109_127 (σ : Nat → Value) (g : aG) (ls st : List Value) (h : aH) (k s : Nat) : Rn (aLk T109 σ) g 127 ls st h k s = (i_aload 8 129) g (Rn (aLk T109 σ) g) ls st h k s := Rn.go mo109 rfl g ls st h k s
theorem r109_129 (σ : Nat → Value) (g : aG) (ls st : List Value) (h : aH) (k s : Nat) : Rn (aLk T109 σ) g 129 ls st h k s = (i_aload 4 131) g (Rn (aLk T109 σ) g) ls st h k s := Rn.go mo109 rfl g ls st h k s
theorem r109_131 (σ : Nat → Value) (g : aG) (ls st : List Value) (h : aH) (k s : Nat) : Rn (aLk T109 σ) g 131 ls st h k s = (i_getf 8 0 134) g (Rn (aLk T109 σ) g) ls st h k s := Rn.go mo109 rfl g ls st h k s
theorem r109_134 (σ : Nat → Value) (g : aG) (ls st : List Value) (h : aH) (k s : Nat) : Rn (aLk T109 σ) g 134 ls st h k s = (i_callV [(2, 12), (24, 226), (16, 213), (1002, 12)] 1 [] 139) g (Rn (aLk T109 σ) g) ls st h k s := Rn.go mo109 rfl g ls st h k s
theorem r109_139 (σ : Nat → Value) (g : aG) (ls st : List Value) (h : aH) (k s : Nat) : Rn (aLk T109 σ) g 139 ls st h k s = (i_istore 5 141) g (Rn (aLk T109 σ) g) ls st h k s := Rn.go mo109 rfl g ls st h k s
theorem r109_141 (σ : Nat → Value) (g : aG) (ls st : List Value) (h : aH) (k s : Nat) : Rn (aLk T109 σ) g 141 ls st h k s = (i_iload 5 143) g (Rn (aLk T109 σ) g) ls st h k s := Rn.go mo109 rfl g ls st h k s
theorem r109_143 (σ : Nat → Value) (g : aG) (ls st : List Value) (h : aH) (k s : Nat) : Rn (aLk T109 σ) g 143 ls st h k s = (i_ifge 156 146) g (Rn (aLk T109 σ) g) ls st h k s := Rn.go mo109 rfl g ls st h k s
theorem r109_146 (σ : Nat → Value) (g : aG) (ls st : List Value) (h : aH) (k s : Nat) : Rn (aLk T109 σ) g 146 ls st h k s = (i_aload 4 148) g (Rn (aLk T109 σ) g) ls st h k s := Rn.go mo109 rfl g ls st h k s
theorem r109_148 (σ : Nat → Value) (g : aG) (ls st : List Value) (h : aH) (k s : Nat) : Rn (aLk T109 σ) g 148 ls st h k s = (i_getf 8 2 151) g (Rn (aLk T109 σ) g) ls st h k s := Rn.go mo109 rfl g ls st h k s
theorem r109_151 (σ : Nat → Value) (g : aG) (ls st : List Value) (h : aH) (k s : Nat) : Rn (aLk T109 σ) g 151 ls st h k s = (i_astore 4 153) g (Rn (aLk T109 σ) g) ls st h k s := Rn.go mo109 rfl g ls st h k s
theorem r109_153 (σ : Nat → Value) (g : aG) (ls st : List Value) (h : aH) (k s : Nat) : Rn (aLk T109 σ) g 153 ls st h k s = (i_goto 196) g (Rn (aLk T109 σ) g) ls st h k s := Rn.go mo109 rfl g ls st h k s
theorem r109_156 (σ : Nat → Value) (g : aG) (ls st : List Value) (h : aH) (k s : Nat) : Rn (aLk T109 σ) g 156 ls st h k s = (i_iload 5 158) g (Rn (aLk T109 σ) g) ls st h k s := Rn.go mo109 rfl g ls st h k s
theorem r109_158 (σ : Nat → Value) (g : aG) (ls st : List Value) (h : aH) (k s : Nat) : Rn (aLk T109 σ) g 158 ls st h k s = (i_ifle 171 161) g (Rn (aLk T109 σ) g) ls st h k s := Rn.go mo109 rfl g ls st h k s
theorem r109_161 (σ : Nat → Value) (g : aG) (ls st : List Value) (h : aH) (k s : Nat) : Rn (aLk T109 σ) g 161 ls st h k s = (i_aload 4 163) g (Rn (aLk T109 σ) g) ls st h k s := Rn.go mo109 rfl g ls st h k s
theorem r109_163 (σ : Nat → Value) (g : aG) (ls st : List Value) (h : aH) (k s : Nat) : Rn (aLk T109 σ) g 163 ls st h k s = (i_getf 8 3 166) g (Rn (aLk T109 σ) g) ls st h k s := Rn.go mo109 rfl g ls st h k s
theorem r109_166 (σ : Nat → Value) (g : aG) (ls st : List Value) (h : aH) (k s : Nat) : Rn (aLk T109 σ) g 166 ls st h k s = (i_astore 4 168) g (Rn (aLk T109 σ) g) ls st h k s := Rn.go mo109 rfl g ls st h k s
theorem r109_168 (σ : Nat → Value) (g : aG) (ls st : List Value) (h : aH) (k s : Nat) : Rn (aLk T109 σ) g 168 ls st h k s = (i_goto 196) g (Rn (aLk T109 σ) g) ls st h k s := Rn.go mo109 rfl g ls st h k s
theorem r109_171 (σ : Nat → Value) (g : aG) (ls st : List Value) (h : aH) (k s : Nat) : Rn (aLk T109 σ) g 171 ls st h k s = (i_aload 4 173) g (Rn (aLk T109 σ) g) ls st h k s := Rn.go mo109 rfl g ls st h k s
theorem r109_173 (σ : Nat → Value) (g : aG) (ls st : List Value) (h : aH) (k s : Nat) : Rn (aLk T109 σ) g 173 ls st h k s = (i_getf 8 1 176) g (Rn (aLk T109 σ) g) ls st h k s := Rn.go mo109 rfl g ls st h k s
theorem r109_176 (σ : Nat → Value) (g : aG) (ls st : List Value) (h : aH) (k s : Nat) : Rn (aLk T109 σ) g 176 ls st h k s = (i_astore 9 178) g (Rn (aLk T109 σ) g) ls st h k s := Rn.go mo109 rfl g ls st h k s
theorem r109_178 (σ : Nat → Value) (g : aG) (ls st : List Value) (h : aH) (k s : Nat) : Rn (aLk T109 σ) g 178 ls st h k s = (i_iload 3 179) g (Rn (aLk T109 σ) g) ls st h k s := Rn.go mo109 rfl g ls st h k s
theorem r109_179 (σ : Nat → Value) (g : aG) (ls st : List Value) (h : aH) (k s : Nat) : Rn (aLk T109 σ) g 179 ls st h k s = (i_ifne 187 182) g (Rn (aLk T109 σ) g) ls st h k s := Rn.go mo109 rfl g ls st h k s
theorem r109_182 (σ : Nat → Value) (g : aG) (ls st : List Value) (h : aH) (k s : Nat) : Rn (aLk T109 σ) g 182 ls st h k s = (i_aload 9 184) g (Rn (aLk T109 σ) g) ls st h k s := Rn.go mo109 rfl g ls st h k s
theorem r109_184 (σ : Nat → Value) (g : aG) (ls st : List Value) (h : aH) (k s : Nat) : Rn (aLk T109 σ) g 184 ls st h k s = (i_nnull 193 187) g (Rn (aLk T109 σ) g) ls st h k s := Rn.go mo109 rfl g ls st h k s
theorem r109_187 (σ : Nat → Value) (g : aG) (ls st : List Value) (h : aH) (k s : Nat) : Rn (aLk T109 σ) g 187 ls st h k s = (i_aload 4 189) g (Rn (aLk T109 σ) g) ls st h k s := Rn.go mo109 rfl g ls st h k s
theorem r109_189 (σ : Nat → Value) (g : aG) (ls st : List Value) (h : aH) (k s : Nat) : Rn (aLk T109 σ) g 189 ls st h k s = (i_aload 2 190) g (Rn (aLk T109 σ) g) ls st h k s := Rn.go mo109 rfl g ls st h k s
theorem r109_190 (σ : Nat → Value) (g : aG) (ls st : List Value) (h : aH) (k s : Nat) : Rn (aLk T109 σ) g 190 ls st h k s = (i_putf 8 1 (.object "java/lang/Object") 193) g (Rn (aLk T109 σ) g) ls st h k s := Rn.go mo109 rfl g ls st h k s
theorem r109_193 (σ : Nat → Value) (g : aG) (ls st : List Value) (h : aH) (k s : Nat) : Rn (aLk T109 σ) g 193 ls st h k s = (i_aload 9 195) g (Rn (aLk T109 σ) g) ls st h k s := Rn.go mo109 rfl g ls st h k s
theorem r109_195 (σ : Nat → Value) (g : aG) (ls st : List Value) (h : aH) (k s : Nat) : Rn (aLk T109 σ) g 195 ls st h k s = (i_aret) g (Rn (aLk T109 σ) g) ls st h k s := Rn.go mo109 rfl g ls st h k s
theorem r109_196 (σ : Nat → Value) (g : aG) (ls st : List Value) (h : aH) (k s : Nat) : Rn (aLk T109 σ) g 196 ls st h k s = (i_aload 4 198) g (Rn (aLk T109 σ) g) ls st h k s := Rn.go mo109 rfl g ls st h k s
theorem r109_198 (σ : Nat → Value) (g : aG) (ls st : List Value) (h : aH) (k s : Nat) : Rn (aLk T109 σ) g 198 ls st h k s = (i_nnull 123 201) g (Rn (aLk T109 σ) g) ls st h k s := Rn.go mo109 rfl g ls st h k s
theorem r109_201 (σ : Nat → Value) (g : aG) (ls st : List Value) (h : aH) (k s : Nat) : Rn (aLk T109 σ) g 201 ls st h k s = (i_aload 0 202) g (Rn (aLk T109 σ) g) ls st h k s := Rn.go mo109 rfl g ls st h k s
theorem r109_202 (σ : Nat → Value) (g : aG) (ls st : List Value) (h : aH) (k s : Nat) : Rn (aLk T109 σ) g 202 ls st h k s = (i_aload 1 203) g (Rn (aLk T109 σ) g) ls st h k s := Rn.go mo109 rfl g ls st h k s
theorem r109_203 (σ : Nat → Value) (g : aG) (ls st : List Value) (h : aH) (k s : Nat) : Rn (aLk T109 σ) g 203 ls st h k s = (i_aload 2 204) g (Rn (aLk T109 σ) g) ls st h k s := Rn.go mo109 rfl g ls st h k s
theorem r109_204 (σ : Nat → Value) (g : aG) (ls st : List Value) (h : aH) (k s : Nat) : Rn (aLk T109 σ) g 204 ls st h k s = (i_aload 6 206) g (Rn (aLk T109 σ) g) ls st h k s := Rn.go mo109 rfl g ls st h k s
theorem r109_206 (σ : Nat → Value) (g : aG) (ls st : List Value) (h : aH) (k s : Nat) : Rn (aLk T109 σ) g 206 ls st h k s = (i_iload 5 208) g (Rn (aLk T109 σ) g) ls st h k s := Rn.go mo109 rfl g ls st h k s
theorem r109_208 (σ : Nat → Value) (g : aG) (ls st : List Value) (h : aH) (k s : Nat) : Rn (aLk T109 σ) g 208 ls st h k s = (i_ifge 215 211) g (Rn (aLk T109 σ) g) ls st h k s := Rn.go mo109 rfl g ls st h k s
theorem r109_211 (σ : Nat → Value) (g : aG) (ls st : List Value) (h : aH) (k s : Nat) : Rn (aLk T109 σ) g 211 ls st h k s = (i_op (o_int 1) 212) g (Rn (aLk T109 σ) g) ls st h k s := Rn.go mo109 rfl g ls st h k s
theorem r109_212 (σ : Nat → Value) (g : aG) (ls st : List Value) (h : aH) (k s : Nat) : Rn (aLk T109 σ) g 212 ls st h k s = (i_goto 216) g (Rn (aLk T109 σ) g) ls st h k s := Rn.go mo109 rfl g ls st h k s
theorem r109_215 (σ : Nat → Value) (g : aG) (ls st : List Value) (h : aH) (k s : Nat) : Rn (aLk T109 σ) g 215 ls st h k s = (i_op (o_int 0) 216) g (Rn (aLk T109 σ) g) ls st h k s := Rn.go mo109 rfl g ls st h k s
theorem r109_216 (σ : Nat → Value) (g : aG) (ls st : List Value) (h : aH) (k s : Nat) : Rn (aLk T109 σ) g 216 ls st h k s = (i_callV [(7, 98)] 4 [] 219) g (Rn (aLk T109 σ) g) ls st h k s := Rn.go mo109 rfl g ls st h k s
theorem r109_219 (σ : Nat → Value) (g : aG) (ls st : List Value) (h : aH) (k s : Nat) : Rn (aLk T109 σ) g 219 ls st h k s = (i_op o_null 220) g (Rn (aLk T109 σ) g) ls st h k s := Rn.go mo109 rfl g ls st h k s
theorem r109_220 (σ : Nat → Value) (g : aG) (ls st : List Value) (h : aH) (k s : Nat) : Rn (aLk T109 σ) g 220 ls st h k s = (i_aret) g (Rn (aLk T109 σ) g) ls st h k s := Rn.go mo109 rfl g ls st h k s
theorem r110_0 (σ : Nat → Value) (g : aG) (ls st : List Value) (h : aH) (k s : Nat) : Rn (aLk T110 σ) g 0 ls st h k s = (i_aload 0 1) g (Rn (aLk T110 σ) g) ls st h k s := Rn.go mo110 rfl g ls st h k s
theorem r110_1 (σ : Nat → Value) (g : aG) (ls st : List Value) (h : aH) (k s : Nat) : Rn (aLk T110 σ) g 1 ls st h k s = (i_nnull 8 4) g (Rn (aLk T110 σ) g) ls st h k s := Rn.go mo110 rfl g ls st h k s
theorem r110_4 (σ : Nat → Value) (g : aG) (ls st : List Value) (h : aH) (k s : Nat) : Rn (aLk T110 σ) g 4 ls st h k s = (i_op o_null 5) g (Rn (aLk T110 σ) g) ls st h k s := Rn.go mo110 rfl g ls st h k s
theorem r110_5 (σ : Nat → Value) (g : aG) (ls st : List Value) (h : aH) (k s : Nat) : Rn (aLk T110 σ) g 5 ls st h k s = (i_goto 12) g (Rn (aLk T110 σ) g) ls st h k s := Rn.go mo110 rfl g ls st h k s
theorem r110_8 (σ : Nat → Value) (g : aG) (ls st : List Value) (h : aH) (k s : Nat) : Rn (aLk T110 σ) g 8 ls st h k s = (i_aload 0 9) g (Rn (aLk T110 σ) g) ls st h k s := Rn.go mo110 rfl g ls st h k s
theorem r110_9 (σ : Nat → Value) (g : aG) (ls st : List Value) (h : aH) (k s : Nat) : Rn (aLk T110 σ) g 9 ls st h k s = (i_getf 8 3 12) g (Rn (aLk T110 σ) g) ls st h k s := Rn.go mo110 rfl g ls st h k s
theorem r110_12 (σ : Nat → Value) (g : aG) (ls st : List Value) (h : aH) (k s : Nat) : Rn (aLk T110 σ) g 12 ls st h k s = (i_aret) g (Rn (aLk T110 σ) g) ls st h k s := Rn.go mo110 rfl g ls st h k s
theorem r111_0 (σ : Nat → Value) (g : aG) (ls st : List Value) (h : aH) (k s : Nat) : Rn (aLk T111 σ) g 0 ls st h k s = (i_aload 1 1) g (Rn (aLk T111 σ) g) ls st h k s := Rn.go mo111 rfl g ls st h k s
theorem r111_1 (σ : Nat → Value) (g : aG) (ls st : List Value) (h : aH) (k s : Nat) : Rn (aLk T111 σ) g 1 ls st h k s = (i_null 95 4) g (Rn (aLk T111 σ) g) ls st h k s := Rn.go mo111 rfl g ls st h k s
theorem r111_4 (σ : Nat → Value) (g : aG) (ls st : List Value) (h : aH) (k s : Nat) : Rn (aLk T111 σ) g 4 ls st h k s = (i_aload 1 5) g (Rn (aLk T111 σ) g) ls st h k s := Rn.go mo111 rfl g ls st h k s
theorem r111_5 (σ : Nat → Value) (g : aG) (ls st : List Value) (h : aH) (k s : Nat) : Rn (aLk T111 σ) g 5 ls st h k s = (i_getf 8 3 8) g (Rn (aLk T111 σ) g) ls st h k s := Rn.go mo111 rfl g ls st h k s
theorem r111_8 (σ : Nat → Value) (g : aG) (ls st : List Value) (h : aH) (k s : Nat) : Rn (aLk T111 σ) g 8 ls st h k s = (i_astore 2 9) g (Rn (aLk T111 σ) g) ls st h k s := Rn.go mo111 rfl g ls st h k s
theorem r111_9 (σ : Nat → Value) (g : aG) (ls st : List Value) (h : aH) (k s : Nat) : Rn (aLk T111 σ) g 9 ls st h k s = (i_aload 1 10) g (Rn (aLk T111 σ) g) ls st h k s := Rn.go mo111 rfl g ls st h k s
theorem r111_10 (σ : Nat → Value) (g : aG) (ls st : List Value) (h : aH) (k s : Nat) : Rn (aLk T111 σ) g 10 ls st h k s = (i_aload 2 11) g (Rn (aLk T111 σ) g) ls st h k s := Rn.go mo111 rfl g ls st h k s
theorem r111_11 (σ : Nat → Value) (g : aG) (ls st : List Value) (h : aH) (k s : Nat) : Rn (aLk T111 σ) g 11 ls st h k s = (i_getf 8 2 14) g (Rn (aLk T111 σ) g) ls st h k s := Rn.go mo111 rfl g ls st h k s
theorem r111_14 (σ : Nat → Value) (g : aG) (ls st : List Value) (h : aH) (k s : Nat) : Rn (aLk T111 σ) g 14 ls st h k s = (i_putf 8 3 (.object "java/util/TreeMap$Entry") 17) g (Rn (aLk T111 σ) g) ls st h k s := Rn.go mo111 rfl g ls st h k s
theorem r111_17 (σ : Nat → Value) (g : aG) (ls st : List Value) (h : aH) (k s : Nat) : Rn (aLk T111 σ) g 17 ls st h k s = (i_aload 2 18) g (Rn (aLk T111 σ) g) ls st h k s := Rn.go mo111 rfl g ls st h k s
theorem r111_18 (σ : Nat → Value) (g : aG) (ls st : List Value) (h : aH) (k s : Nat) : Rn (aLk T111 σ) g 18 ls st h k s = (i_getf 8 2 21) g (Rn (aLk T111 σ) g) ls st h k s := Rn.go mo111 rfl g ls st h k s
theorem r111_21 (σ : Nat → Value) (g : aG) (ls st : List Value) (h : aH) (k s : Nat) : Rn (aLk T111 σ) g 21 ls st h k s = (i_null 32 24) g (Rn (aLk T111 σ) g) ls st h k s := Rn.go mo111 rfl g ls st h k s
theorem r111_24 (σ : Nat → Value) (g : aG) (ls st : List Value) (h : aH) (k s : Nat) : Rn (aLk T111 σ) g 24 ls st h k s = (i_aload 2 25) g (Rn (aLk T111 σ) g) ls st h k s := Rn.go mo111 rfl g ls st h k s
theorem r111_25 (σ : Nat → Value) (g : aG) (ls st : List Value) (h : aH) (k s : Nat) : Rn (aLk T111 σ) g 25 ls st h k s = (i_getf 8 2 28) g (Rn (aLk T111 σ) g) ls st h k s := Rn.go mo111 rfl g ls st h k s
theorem r111_28 (σ : Nat → Value) (g : aG) (ls st : List Value) (h : aH) (k s : Nat) : Rn (aLk T111 σ) g 28 ls st h k s = (i_aload 1 29) g (Rn (aLk T111 σ) g) ls st h k s := Rn.go mo111 rfl g ls st h k s
theorem r111_29 (σ : Nat → Value) (g : aG) (ls st : List Value) (h : aH) (k s : Nat) : Rn (aLk T111 σ) g 29 ls st h k s = (i_putf 8 4 (.object "java/util/TreeMap$Entry") 32) g (Rn (aLk T111 σ) g) ls st h k s := Rn.go mo111 rfl g ls st h k s
theorem r111_32 (σ : Nat → Value) (g : aG) (ls st : List Value) (h : aH) (k s : Nat) : Rn (aLk T111 σ) g 32 ls st h k s = (i_aload 2 33) g (Rn (aLk T111 σ) g) ls st h k s := Rn.go mo111 rfl g ls st h k s
theorem r111_33 (σ : Nat → Value) (g : aG) (ls st : List Value) (h : aH) (k s : Nat) : Rn (aLk T111 σ) g 33 ls st h k s = (i_aload 1 34) g (Rn (aLk T111 σ) g) ls st h k s := Rn.go mo111 rfl g ls st h k s
theorem r111_34 (σ : Nat → Value) (g : aG) (ls st : List Value) (h : aH) (k s : Nat) : Rn (aLk T111 σ) g 34 ls st h k s = (i_getf 8 4 37) g (Rn (aLk T111 σ) g) ls st h k s := Rn.go mo111 rfl g ls st h k s
theorem r111_37 (σ : Nat → Value) (g : aG) (ls st : List Value) (h : aH) (k s : Nat) : Rn (aLk T111 σ) g 37 ls st h k s = (i_putf 8 4 (.object "java/util/TreeMap$Entry") 40) g (Rn (aLk T111 σ) g) ls st h k s := Rn.go mo111 rfl g ls st h k s
theorem r111_40 (σ : Nat → Value) (g : aG) (ls st : List Value) (h : aH) (k s : Nat) : Rn (aLk T111 σ) g 40 ls st h k s = (i_aload 1 41) g (Rn (aLk T111 σ) g) ls st h k s := Rn.go mo111 rfl g ls st h k s
theorem r111_41 (σ : Nat → Value) (g : aG) (ls st : List Value) (h : aH) (k s : Nat) : Rn (aLk T111 σ) g 41 ls st h k s = (i_getf 8 4 44) g (Rn (aLk T111 σ) g) ls st h k s := Rn.go mo111 rfl g ls st h k s
theorem r111_44 (σ : Nat → Value) (g : aG) (ls st : List Value) (h : aH) (k s : Nat) : Rn (aLk T111 σ) g 44 ls st h k s = (i_nnull 55 47) g (Rn (aLk T111 σ) g) ls st h k s := Rn.go mo111 rfl g ls st h k s
theorem r111_47 (σ : Nat → Value) (g : aG) (ls st : List Value) (h : aH) (k s : Nat) : Rn (aLk T111 σ) g 47 ls st h k s = (i_aload 0 48) g (Rn (aLk T111 σ) g) ls st h k s := Rn.go mo111 rfl g ls st h k s
theorem r111_48 (σ : Nat → Value) (g : aG) (ls st : List Value) (h : aH) (k s : Nat) : Rn (aLk T111 σ) g 48 ls st h k s = (i_aload 2 49) g (Rn (aLk T111 σ) g) ls st h k s := Rn.go mo111 rfl g ls st h k s
theorem r111_49 (σ : Nat → Value) (g : aG) (ls st : List Value) (h : aH) (k s : Nat) : Rn (aLk T111 σ) g 49 ls st h k s = (i_putf 7 3 (.object "java/util/TreeMap$Entry") 52) g (Rn (aLk T111 σ) g) ls st h k s := Rn.go mo111 rfl g ls st h k s
theorem r111_52 (σ : Nat → Value) (g : aG) (ls st : List Value) (h : aH) (k s : Nat) : Rn (aLk T111 σ) g 52 ls st h k s = (i_goto 85) g (Rn (aLk T111 σ) g) ls st h k s := Rn.go mo111 rfl g ls st h k s
theorem r111_55 (σ : Nat → Value) (g : aG) (ls st : List Value) (h : aH) (k s : Nat) : Rn (aLk T111 σ) g 55 ls st h k s = (i_aload 1 56) g (Rn (aLk T111 σ) g) ls st h k s := Rn.go mo111 rfl g ls st h k s
theorem r111_56 (σ : Nat → Value) (g : aG) (ls st : List Value) (h : aH) (k s : Nat) : Rn (aLk T111 σ) g 56 ls st h k s = (i_getf 8 4 59) g (Rn (aLk T111 σ) g) ls st h k s := Rn.go mo111 rfl g ls st h k s
theorem r111_59 (σ : Nat → Value) (g : aG) (ls st : List Value) (h : aH) (k s : Nat) : Rn (aLk T111 σ) g 59 ls st h k s = (i_getf 8 2 62) g (Rn (aLk T111 σ) g) ls st h k s := Rn.go mo111 rfl g ls st h k s
theorem r111_62 (σ : Nat → Value) (g : aG) (ls st : List Value) (h : aH) (k s : Nat) : Rn (aLk T111 σ) g 62 ls st h k s = (i_aload 1 63) g (Rn (aLk T111 σ) g) ls st h k s := Rn.go mo111 rfl g ls st h k s
theorem r111_63 (σ : Nat → Value) (g : aG) (ls st : List Value) (h : aH) (k s : Nat) : Rn (aLk T111 σ) g 63 ls st h k s = (i_ane 77 66) g (Rn (aLk T111 σ) g) ls st h k s := Rn.go mo111 rfl g ls st h k s
theorem r111_66 (σ : Nat → Value) (g : aG) (ls st : List Value) (h : aH) (k s : Nat) : Rn (aLk T111 σ) g 66 ls st h k s = (i_aload 1 67) g (Rn (aLk T111 σ) g) ls st h k s := Rn.go mo111 rfl g ls st h k s
theorem r111_67 (σ : Nat → Value) (g : aG) (ls st : List Value) (h : aH) (k s : Nat) : Rn (aLk T111 σ) g 67 ls st h k s = (i_getf 8 4 70) g (Rn (aLk T111 σ) g) ls st h k s := Rn.go mo111 rfl g ls st h k s
theorem r111_70 (σ : Nat → Value) (g : aG) (ls st : List Value) (h : aH) (k s : Nat) : Rn (aLk T111 σ) g 70 ls st h k s = (i_aload 2 71) g (Rn (aLk T111 σ) g) ls st h k s := Rn.go mo111 rfl g ls st h k s
theorem r111_71 (σ : Nat → Value) (g : aG) (ls st : List Value) (h : aH) (k s : Nat) : Rn (aLk T111 σ) g 71 ls st h k s = (i_putf 8 2 (.object "java/util/TreeMap$Entry") 74) g (Rn (aLk T111 σ) g) ls st h k s := Rn.go mo111 rfl g ls st h k s
theorem r111_74 (σ : Nat → Value) (g : aG) (ls st : List Value) (h : aH) (k s : Nat) : Rn (aLk T111 σ) g 74 ls st h k s = (i_goto 85) g (Rn (aLk T111 σ) g) ls st h k s := Rn.go mo111 rfl g ls st h k s
theorem r111_77 (σ : Nat → Value) (g : aG) (ls st : List Value) (h : aH) (k s : Nat) : Rn (aLk T111 σ) g 77 ls st h k s = (i_aload 1 78) g (Rn (aLk T111 σ) g) ls st h k s := Rn.go mo111 rfl g ls st h k s
theorem r111_78 (σ : Nat → Value) (g : aG) (ls st : List Value) (h : aH) (k s : Nat) : Rn (aLk T111 σ) g 78 ls st h k s = (i_getf 8 4 81) g (Rn (aLk T111 σ) g) ls st h k s := Rn.go mo111 rfl g ls st h k s
theorem r111_81 (σ : Nat → Value) (g : aG) (ls st : List Value) (h : aH) (k s : Nat) : Rn (aLk T111 σ) g 81 ls st h k s = (i_aload 2 82) g (Rn (aLk T111 σ) g) ls st h k s := Rn.go mo111 rfl g ls st h k s
theorem r111_82 (σ : Nat → Value) (g : aG) (ls st : List Value) (h : aH) (k s : Nat) : Rn (aLk T111 σ) g 82 ls st h k s = (i_putf 8 3 (.object "java/util/TreeMap$Entry") 85) g (Rn (aLk T111 σ) g) ls st h k s := Rn.go mo111 rfl g ls st h k s
theorem r111_85 (σ : Nat → Value) (g : aG) (ls st : List Value) (h : aH) (k s : Nat) : Rn (aLk T111 σ) g 85 ls st h k s = (i_aload 2 86) g (Rn (aLk T111 σ) g) ls st h k s := Rn.go mo111 rfl g ls st h k s
theorem r111_86 (σ : Nat → Value) (g : aG) (ls st : List Value) (h : aH) (k s : Nat) : Rn (aLk T111 σ) g 86 ls st h k s = (i_aload 1 87) g (Rn (aLk T111 σ) g) ls st h k s := Rn.go mo111 rfl g ls st h k s
theorem r111_87 (σ : Nat → Value) (g : aG) (ls st : List Value) (h : aH) (k s : Nat) : Rn (aLk T111 σ) g 87 ls st h k s = (i_putf 8 2 (.object "java/util/TreeMap$Entry") 90) g (Rn (aLk T111 σ) g) ls st h k s := Rn.go mo111 rfl g ls st h k s
theorem r111_90 (σ : Nat → Value) (g : aG) (ls st : List Value) (h : aH) (k s : Nat) : Rn (aLk T111 σ) g 90 ls st h k s = (i_aload 1 91) g (Rn (aLk T111 σ) g) ls st h k s := Rn.go mo111 rfl g ls st h k s
theorem r111_91 (σ : Nat → Value) (g : aG) (ls st : List Value) (h : aH) (k s : Nat) : Rn (aLk T111 σ) g 91 ls st h k s = (i_aload 2 92) g (Rn (aLk T111 σ) g) ls st h k s := Rn.go mo111 rfl g ls st h k s
theorem r111_92 (σ : Nat → Value) (g : aG) (ls st : List Value) (h : aH) (k s : Nat) : Rn (aLk T111 σ) g 92 ls st h k s = (i_putf 8 4 (.object "java/util/TreeMap$Entry") 95) g (Rn (aLk T111 σ) g) ls st h k s := Rn.go mo111 rfl g ls st h k s
theorem r111_95 (σ : Nat → Value) (g : aG) (ls st : List Value) (h : aH) (k s : Nat) : Rn (aLk T111 σ) g 95 ls st h k s = (i_ret) g (Rn (aLk T111 σ) g) ls st h k s := Rn.go mo111 rfl g ls st h k s
theorem r112_0 (σ : Nat → Value) (g : aG) (ls st : List Value) (h : aH) (k s : Nat) : Rn (aLk T112 σ) g 0 ls st h k s = (i_aload 1 1) g (Rn (aLk T112 σ) g) ls st h k s := Rn.go mo112 rfl g ls st h k s
theorem r112_1 (σ : Nat → Value) (g : aG) (ls st : List Value) (h : aH) (k s : Nat) : Rn (aLk T112 σ) g 1 ls st h k s = (i_null 95 4) g (Rn (aLk T112 σ) g) ls st h k s := Rn.go mo112 rfl g ls st h k s
theorem r112_4 (σ : Nat → Value) (g : aG) (ls st : List Value) (h : aH) (k s : Nat) : Rn (aLk T112 σ) g 4 ls st h k s = (i_aload 1 5) g (Rn (aLk T112 σ) g) ls st h k s := Rn.go mo112 rfl g ls st h k s
theorem r112_5 (σ : Nat → Value) (g : aG) (ls st : List Value) (h : aH) (k s : Nat) : Rn (aLk T112 σ) g 5 ls st h k s = (i_getf 8 2 8) g (Rn (aLk T112 σ) g) ls st h k s := Rn.go mo112 rfl g ls st h k s
theorem r112_8 (σ : Nat → Value) (g : aG) (ls st : List Value) (h : aH) (k s : Nat) : Rn (aLk T112 σ) g 8 ls st h k s = (i_astore 2 9) g (Rn (aLk T112 σ) g) ls st h k s := Rn.go mo112 rfl g ls st h k s
theorem r112_9 (σ : Nat → Value) (g : aG) (ls st : List Value) (h : aH) (k s : Nat) : Rn (aLk T112 σ) g 9 ls st h k s = (i_aload 1 10) g (Rn (aLk T112 σ) g) ls st h k s := Rn.go mo112 rfl g ls st h k s
theorem r112_10 (σ : Nat → Value) (g : aG) (ls st : List Value) (h : aH) (k s : Nat) : Rn (aLk T112 σ) g 10 ls st h k s = (i_aload 2 11) g (Rn (aLk T112 σ) g) ls st h k s := Rn.go mo112 rfl g ls st h k s
theorem r112_11 (σ : Nat → Value) (g : aG) (ls st : List Value) (h : aH) (k s : Nat) : Rn (aLk T112 σ) g 11 ls st h k s = (i_getf 8 3 14) g (Rn (aLk T112 σ) g) ls st h k s := Rn.go mo112 rfl g ls st h k s
theorem r112_14 (σ : Nat → Value) (g : aG) (ls st : List Value) (h : aH) (k s : Nat) : Rn (aLk T112 σ) g 14 ls st h k s = (i_putf 8 2 (.object "java/util/TreeMap$Entry") 17) g (Rn (aLk T112 σ) g) ls st h k s := Rn.go mo112 rfl g ls st h k s
theorem r112_17 (σ : Nat → Value) (g : aG) (ls st : List Value) (h : aH) (k s : Nat) : Rn (aLk T112 σ) g 17 ls st h k s = (i_aload 2 18) g (Rn (aLk T112 σ) g) ls st h k s := Rn.go mo112 rfl g ls st h k s
theorem r112_18 (σ : Nat → Value) (g : aG) (ls st : List Value) (h : aH) (k s : Nat) : Rn (aLk T112 σ) g 18 ls st h k s = (i_getf 8 3 21) g (Rn (aLk T112 σ) g) ls st h k s := Rn.go mo112 rfl g ls st h k s
theorem r112_21 (σ : Nat → Value) (g : aG) (ls st : List Value) (h : aH) (k s : Nat) : Rn (aLk T112 σ) g 21 ls st h k s = (i_null 32 24) g (Rn (aLk T112 σ) g) ls st h k s := Rn.go mo112 rfl g ls st h k s
theorem r112_24 (σ : Nat → Value) (g : aG) (ls st : List Value) (h : aH) (k s : Nat) : Rn (aLk T112 σ) g 24 ls st h k s = (i_aload 2 25) g (Rn (aLk T112 σ) g) ls st h k s := Rn.go mo112 rfl g ls st h k s
theorem r112_25 (σ : Nat → Value) (g : aG) (ls st : List Value) (h : aH) (k s : Nat) : Rn (aLk T112 σ) g 25 ls st h k s = (i_getf 8 3 28) g (Rn (aLk T112 σ) g) ls st h k s := Rn.go mo112 rfl g ls st h k s
theorem r112_28 (σ : Nat → Value) (g : aG) (ls st : List Value) (h : aH) (k s : Nat) : Rn (aLk T112 σ) g 28 ls st h k s = (i_aload 1 29) g (Rn (aLk T112 σ) g) ls st h k s := Rn.go mo112 rfl g ls st h k s
theorem r112_29 (σ : Nat → Value) (g : aG) (ls st : List Value) (h : aH) (k s : Nat) : Rn (aLk T112 σ) g 29 ls st h k s = (i_putf 8 4 (.object "java/util/TreeMap$Entry") 32) g (Rn (aLk T112 σ) g) ls st h k s := Rn.go mo112 rfl g ls st h k s
theorem r112_32 (σ : Nat → Value) (g : aG) (ls st : List Value) (h : aH) (k s : Nat) : Rn (aLk T112 σ) g 32 ls st h k s = (i_aload 2 33) g (Rn (aLk T112 σ) g) ls st h k s := Rn.go mo112 rfl g ls st h k s
theorem r112_33 (σ : Nat → Value) (g : aG) (ls st : List Value) (h : aH) (k s : Nat) : Rn (aLk T112 σ) g 33 ls st h k s = (i_aload 1 34) g (Rn (aLk T112 σ) g) ls st h k s := Rn.go mo112 rfl g ls st h k s
theorem r112_34 (σ : Nat → Value) (g : aG) (ls st : List Value) (h : aH) (k s : Nat) : Rn (aLk T112 σ) g 34 ls st h k s = (i_getf 8 4 37) g (Rn (aLk T112 σ) g) ls st h k s := Rn.go mo112 rfl g ls st h k s
theorem r112_37 (σ : Nat → Value) (g : aG) (ls st : List Value) (h : aH) (k s : Nat) : Rn (aLk T112 σ) g 37 ls st h k s = (i_putf 8 4 (.object "java/util/TreeMap$Entry") 40) g (Rn (aLk T112 σ) g) ls st h k s := Rn.go mo112 rfl g ls st h k s
theorem r112_40 (σ : Nat → Value) (g : aG) (ls st : List Value) (h : aH) (k s : Nat) : Rn (aLk T112 σ) g 40 ls st h k s = (i_aload 1 41) g (Rn (aLk T112 σ) g) ls st h k s := Rn.go mo112 rfl g ls st h k s
theorem r112_41 (σ : Nat → Value) (g : aG) (ls st : List Value) (h : aH) (k s : Nat) : Rn (aLk T112 σ) g 41 ls st h k s = (i_getf 8 4 44) g (Rn (aLk T112 σ) g) ls st h k s := Rn.go mo112 rfl g ls st h k s
theorem r112_44 (σ : Nat → Value) (g : aG) (ls st : List Value) (h : aH) (k s : Nat) : Rn (aLk T112 σ) g 44 ls st h k s = (i_nnull 55 47) g (Rn (aLk T112 σ) g) ls st h k s := Rn.go mo112 rfl g ls st h k s
theorem r112_47 (σ : Nat → Value) (g : aG) (ls st : List Value) (h : aH) (k s : Nat) : Rn (aLk T112 σ) g 47 ls st h k s = (i_aload 0 48) g (Rn (aLk T112 σ) g) ls st h k s := Rn.go mo112 rfl g ls st h k s
theorem r112_48 (σ : Nat → Value) (g : aG) (ls st : List Value) (h : aH) (k s : Nat) : Rn (aLk T112 σ) g 48 ls st h k s = (i_aload 2 49) g (Rn (aLk T112 σ) g) ls st h k s := Rn.go mo112 rfl g ls st h k s
theorem r112_49 (σ : Nat → Value) (g : aG) (ls st : List Value) (h : aH) (k s : Nat) : Rn (aLk T112 σ) g 49 ls st h k s = (i_putf 7 3 (.object "java/util/TreeMap$Entry") 52) g (Rn (aLk T112 σ) g) ls st h k s := Rn.go mo112 rfl g ls st h k s
theorem r112_52 (σ : Nat → Value) (g : aG) (ls st : List Value) (h : aH) (k s : Nat) : Rn (aLk T112 σ) g 52 ls st h k s = (i_goto 85) g (Rn (aLk T112 σ) g) ls st h k s := Rn.go mo112 rfl g ls st h k s
theorem r112_55 (σ : Nat → Value) (g : aG) (ls st : List Value) (h : aH) (k s : Nat) : Rn (aLk T112 σ) g 55 ls st h k s = (i_aload 1 56) g (Rn (aLk T112 σ) g) ls st h k s := Rn.go mo112 rfl g ls st h k s
theorem r112_56 (σ : Nat → Value) (g : aG) (ls st : List Value) (h : aH) (k s : Nat) : Rn (aLk T112 σ) g 56 ls st h k s = (i_getf 8 4 59) g (Rn (aLk T112 σ) g) ls st h k s := Rn.go mo112 rfl g ls st h k s
theorem r112_59 (σ : Nat → Value) (g : aG) (ls st : List Value) (h : aH) (k s : Nat) : Rn (aLk T112 σ) g 59 ls st h k s = (i_getf 8 3 62) g (Rn (aLk T112 σ) g) ls st h k s := Rn.go mo112 rfl g ls st h k s
theorem r112_62 (σ : Nat → Value) (g : aG) (ls st : List Value) (h : aH) (k s : Nat) : Rn (aLk T112 σ) g 62 ls st h k s = (i_aload 1 63) g (Rn (aLk T112 σ) g) ls st h k s := Rn.go mo112 rfl g ls st h k s
theorem r112_63 (σ : Nat → Value) (g : aG) (ls st : List Value) (h : aH) (k s : Nat) : Rn (aLk T112 σ) g 63 ls st h k s = (i_ane 77 66) g (Rn (aLk T112 σ) g) ls st h k s := Rn.go mo112 rfl g ls st h k s
theorem r112_66 (σ : Nat → Value) (g : aG) (ls st : List Value) (h : aH) (k s : Nat) : Rn (aLk T112 σ) g 66 ls st h k s = (i_aload 1 67) g (Rn (aLk T112 σ) g) ls st h k s := Rn.go mo112 rfl g ls st h k s
theorem r112_67 (σ : Nat → Value) (g : aG) (ls st : List Value) (h : aH) (k s : Nat) : Rn (aLk T112 σ) g 67 ls st h k s = (i_getf 8 4 70) g (Rn (aLk T112 σ) g) ls st h k s := Rn.go mo112 rfl g ls st h k s
theorem r112_70 (σ : Nat → Value) (g : aG) (ls st : List Value) (h : aH) (k s : Nat) : Rn (aLk T112 σ) g 70 ls st h k s = (i_aload 2 71) g (Rn (aLk T112 σ) g) ls st h k s := Rn.go mo112 rfl g ls st h k s
theorem r112_71 (σ : Nat → Value) (g : aG) (ls st : List Value) (h : aH) (k s : Nat) : Rn (aLk T112 σ) g 71 ls st h k s = (i_putf 8 3 (.object "java/util/TreeMap$Entry") 74) g (Rn (aLk T112 σ) g) ls st h k s := Rn.go mo112 rfl g ls st h k s
theorem r112_74 (σ : Nat → Value) (g : aG) (ls st : List Value) (h : aH) (k s : Nat) : Rn (aLk T112 σ) g 74 ls st h k s = (i_goto 85) g (Rn (aLk T112 σ) g) ls st h k s := Rn.go mo112 rfl g ls st h k s
theorem r112_77 (σ : Nat → Value) (g : aG) (ls st : List Value) (h : aH) (k s : Nat) : Rn (aLk T112 σ) g 77 ls st h k s = (i_aload 1 78) g (Rn (aLk T112 σ) g) ls st h k s := Rn.go mo112 rfl g ls st h k s
theorem r112_78 (σ : Nat → Value) (g : aG) (ls st : List Value) (h : aH) (k s : Nat) : Rn (aLk T112 σ) g 78 ls st h k s = (i_getf 8 4 81) g (Rn (aLk T112 σ) g) ls st h k s := Rn.go mo112 rfl g ls st h k s
theorem r112_81 (σ : Nat → Value) (g : aG) (ls st : List Value) (h : aH) (k s : Nat) : Rn (aLk T112 σ) g 81 ls st h k s = (i_aload 2 82) g (Rn (aLk T112 σ) g) ls st h k s := Rn.go mo112 rfl g ls st h k s
theorem r112_82 (σ : Nat → Value) (g : aG) (ls st : List Value) (h : aH) (k s : Nat) : Rn (aLk T112 σ) g 82 ls st h k s = (i_putf 8 2 (.object "java/util/TreeMap$Entry") 85) g (Rn (aLk T112 σ) g) ls st h k s := Rn.go mo112 rfl g ls st h k s
theorem r112_85 (σ : Nat → Value) (g : aG) (ls st : List Value) (h : aH) (k s : Nat) : Rn (aLk T112 σ) g 85 ls st h k s = (i_aload 2 86) g (Rn (aLk T112 σ) g) ls st h k s := Rn.go mo112 rfl g ls st h k s
theorem r112_86 (σ : Nat → Value) (g : aG) (ls st : List Value) (h : aH) (k s : Nat) : Rn (aLk T112 σ) g 86 ls st h k s = (i_aload 1 87) g (Rn (aLk T112 σ) g) ls st h k s := Rn.go mo112 rfl g ls st h k s
theorem r112_87 (σ : Nat → Value) (g : aG) (ls st : List Value) (h : aH) (k s : Nat) : Rn (aLk T112 σ) g 87 ls st h k s = (i_putf 8 3 (.object "java/util/TreeMap$Entry") 90) g (Rn (aLk T112 σ) g) ls st h k s := Rn.go mo112 rfl g ls st h k s
theorem r112_90 (σ : Nat → Value) (g : aG) (ls st : List Value) (h : aH) (k s : Nat) : Rn (aLk T112 σ) g 90 ls st h k s = (i_aload 1 91) g (Rn (aLk T112 σ) g) ls st h k s := Rn.go mo112 rfl g ls st h k s
theorem r112_91 (σ : Nat → Value) (g : aG) (ls st : List Value) (h : aH) (k s : Nat) : Rn (aLk T112 σ) g 91 ls st h k s = (i_aload 2 92) g (Rn (aLk T112 σ) g) ls st h k s := Rn.go mo112 rfl g ls st h k s
theorem r112_92 (σ : Nat → Value) (g : aG) (ls st : List Value) (h : aH) (k s : Nat) : Rn (aLk T112 σ) g 92 ls st h k s = (i_putf 8 4 (.object "java/util/TreeMap$Entry") 95) g (Rn (aLk T112 σ) g) ls st h k s := Rn.go mo112 rfl g ls st h k s
theorem r112_95 (σ : Nat → Value) (g : aG) (ls st : List Value) (h : aH) (k s : Nat) : Rn (aLk T112 σ) g 95 ls st h k s = (i_ret) g (Rn (aLk T112 σ) g) ls st h k s := Rn.go mo112 rfl g ls st h k s
theorem r113_0 (σ : Nat → Value) (g : aG) (ls st : List Value) (h : aH) (k s : Nat) : Rn (aLk T113 σ) g 0 ls st h k s = (i_aload 0 1) g (Rn (aLk T113 σ) g) ls st h k s := Rn.go mo113 rfl g ls st h k s
theorem r113_1 (σ : Nat → Value) (g : aG) (ls st : List Value) (h : aH) (k s : Nat) : Rn (aLk T113 σ) g 1 ls st h k s = (i_null 9 4) g (Rn (aLk T113 σ) g) ls st h k s := Rn.go mo113 rfl g ls st h k s
theorem r113_4 (σ : Nat → Value) (g : aG) (ls st : List Value) (h : aH) (k s : Nat) : Rn (aLk T113 σ) g 4 ls st h k s = (i_aload 0 5) g (Rn (aLk T113 σ) g) ls st h k s := Rn.go mo113 rfl g ls st h k s
theorem r113_5 (σ : Nat → Value) (g : aG) (ls st : List Value) (h : aH) (k s : Nat) : Rn (aLk T113 σ) g 5 ls st h k s = (i_iload 1 6) g (Rn (aLk T113 σ) g) ls st h k s := Rn.go mo113 rfl g ls st h k s
theorem r113_6 (σ : Nat → Value) (g : aG) (ls st : List Value) (h : aH) (k s : Nat) : Rn (aLk T113 σ) g 6 ls st h k s = (i_putf 8 5 .boolean 9) g (Rn (aLk T113 σ) g) ls st h k s := Rn.go mo113 rfl g ls st h k s
theorem r113_9 (σ : Nat → Value) (g : aG) (ls st : List Value) (h : aH) (k s : Nat) : Rn (aLk T113 σ) g 9 ls st h k s = (i_ret) g (Rn (aLk T113 σ) g) ls st h k s := Rn.go mo113 rfl g ls st h k s
theorem r114_0 (σ : Nat → Value) (g : aG) (ls st : List Value) (h : aH) (k s : Nat) : Rn (aLk T114 σ) g 0 ls st h k s = (i_aload 0 1) g (Rn (aLk T114 σ) g) ls st h k s := Rn.go mo114 rfl g ls st h k s
theorem r114_1 (σ : Nat → Value) (g : aG) (ls st : List Value) (h : aH) (k s : Nat) : Rn (aLk T114 σ) g 1 ls st h k s = (i_oinit 4) g (Rn (aLk T114 σ) g) ls st h k s := Rn.go mo114 rfl g ls st h k s
theorem r114_4 (σ : Nat → Value) (g : aG) (ls st : List Value) (h : aH) (k s : Nat) : Rn (aLk T114 σ) g 4 ls st h k s = (i_aload 0 5) g (Rn (aLk T114 σ) g) ls st h k s := Rn.go mo114 rfl g ls st h k s
theorem r114_5 (σ : Nat → Value) (g : aG) (ls st : List Value) (h : aH) (k s : Nat) : Rn (aLk T114 σ) g 5 ls st h k s = (i_op (o_int 1) 6) g (Rn (aLk T114 σ) g) ls st h k s := Rn.go mo114 rfl g ls st h k s
theorem r114_6 (σ : Nat → Value) (g : aG) (ls st : List Value) (h : aH) (k s : Nat) : Rn (aLk T114 σ) g 6 ls st h k s = (i_putf 8 5 .boolean 9) g (Rn (aLk T114 σ) g) ls st h k s := Rn.go mo114 rfl g ls st h k s
theorem r114_9 (σ : Nat → Value) (g : aG) (ls st : List Value) (h : aH) (k s : Nat) : Rn (aLk T114 σ) g 9 ls st h k s = (i_aload 0 10) g (Rn (aLk T114 σ) g) ls st h k s := Rn.go mo114 rfl g ls st h k s
theorem r114_10 (σ : Nat → Value) (g : aG) (ls st : List Value) (h : aH) (k s : Nat) : Rn (aLk T114 σ) g 10 ls st h k s = (i_aload 1 11) g (Rn (aLk T114 σ) g) ls st h k s := Rn.go mo114 rfl g ls st h k s
theorem r114_11 (σ : Nat → Value) (g : aG) (ls st : List Value) (h : aH) (k s : Nat) : Rn (aLk T114 σ) g 11 ls st h k s = (i_putf 8 0 (.object "java/lang/Object") 14) g (Rn (aLk T114 σ) g) ls st h k s := Rn.go mo114 rfl g ls st h k s
theorem r114_14 (σ : Nat → Value) (g : aG) (ls st : List Value) (h : aH) (k s : Nat) : Rn (aLk T114 σ) g 14 ls st h k s = (i_aload 0 15) g (Rn (aLk T114 σ) g) ls st h k s := Rn.go mo114 rfl g ls st h k s
theorem r114_15 (σ : Nat → Value) (g : aG) (ls st : List Value) (h : aH) (k s : Nat) : Rn (aLk T114 σ) g 15 ls st h k s = (i_aload 2 16) g (Rn (aLk T114 σ) g) ls st h k s := Rn.go mo114 rfl g ls st h k s
theorem r114_16 (σ : Nat → Value) (g : aG) (ls st : List Value) (h : aH) (k s : Nat) : Rn (aLk T114 σ) g 16 ls st h k s = (i_putf 8 1 (.object "java/lang/Object") 19) g (Rn (aLk T114 σ) g) ls st h k s := Rn.go mo114 rfl g ls st h k s
theorem r114_19 (σ : Nat → Value) (g : aG) (ls st : List Value) (h : aH) (k s : Nat) : Rn (aLk T114 σ) g 19 ls st h k s = (i_aload 0 20) g (Rn (aLk T114 σ) g) ls st h k s := Rn.go mo114 rfl g ls st h k s
theorem r114_20 (σ : Nat → Value) (g : aG) (ls st : List Value) (h : aH) (k s : Nat) : Rn (aLk T114 σ) g 20 ls st h k s = (i_aload 3 21) g (Rn (aLk T114 σ) g) ls st h k s := Rn.go mo114 rfl g ls st h k s
theorem r114_21 (σ : Nat → Value) (g : aG) (ls st : List Value) (h : aH) (k s : Nat) : Rn (aLk T114 σ) g 21 ls st h k s = (i_putf 8 4 (.object "java/util/TreeMap$Entry") 24) g (Rn (aLk T114 σ) g) ls st h k s := Rn.go mo114 rfl g ls st h k s
theorem r114_24 (σ : Nat → Value) (g : aG) (ls st : List Value) (h : aH) (k s : Nat) : Rn (aLk T114 σ) g 24 ls st h k s = (i_ret) g (Rn (aLk T114 σ) g) ls st h k s := Rn.go mo114 rfl g ls st h k s
theorem r115_0 (σ : Nat → Value) (g : aG) (ls st : List Value) (h : aH) (k s : Nat) : Rn (aLk T115 σ) g 0 ls st h k s = (i_aload 0 1) g (Rn (aLk T115 σ) g) ls st h k s := Rn.go mo115 rfl g ls st h k s
theorem r115_1 (σ : Nat → Value) (g : aG) (ls st : List Value) (h : aH) (k s : Nat) : Rn (aLk T115 σ) g 1 ls st h k s = (i_new 7 9 [.null, .null, .null, .null, .int 0, .int 0, .null, .null, .null] 4) g (Rn (aLk T115 σ) g) ls st h k s := Rn.go mo115 rfl g ls st h k s
theorem r115_4 (σ : Nat → Value) (g : aG) (ls st : List Value) (h : aH) (k s : Nat) : Rn (aLk T115 σ) g 4 ls st h k s = (i_op o_dup 5) g (Rn (aLk T115 σ) g) ls st h k s := Rn.go mo115 rfl g ls st h k s
theorem r115_5 (σ : Nat → Value) (g : aG) (ls st : List Value) (h : aH) (k s : Nat) : Rn (aLk T115 σ) g 5 ls st h k s = (i_callI 97 0 [] 8) g (Rn (aLk T115 σ) g) ls st h k s := Rn.go mo115 rfl g ls st h k s
theorem r115_8 (σ : Nat → Value) (g : aG) (ls st : List Value) (h : aH) (k s : Nat) : Rn (aLk T115 σ) g 8 ls st h k s = (i_callI 116 1 [] 11) g (Rn (aLk T115 σ) g) ls st h k s := Rn.go mo115 rfl g ls st h k s
theorem r115_11 (σ : Nat → Value) (g : aG) (ls st : List Value) (h : aH) (k s : Nat) : Rn (aLk T115 σ) g 11 ls st h k s = (i_ret) g (Rn (aLk T115 σ) g) ls st h k s := Rn.go mo115 rfl g ls st h k s
theorem r116_0 (σ : Nat → Value) (g : aG) (ls st : List Value) (h : aH) (k s : Nat) : Rn (aLk T116 σ) g 0 ls st h k s = (i_aload 0 1) g (Rn (aLk T116 σ) g) ls st h k s := Rn.go mo116 rfl g ls st h k s
theorem r116_1 (σ : Nat → Value) (g : aG) (ls st : List Value) (h : aH) (k s : Nat) : Rn (aLk T116 σ) g 1 ls st h k s = (i_callI 29 0 [] 4) g (Rn (aLk T116 σ) g) ls st h k s := Rn.go mo116 rfl g ls st h k s
theorem r116_4 (σ : Nat → Value) (g : aG) (ls st : List Value) (h : aH) (k s : Nat) : Rn (aLk T116 σ) g 4 ls st h k s = (i_aload 0 5) g (Rn (aLk T116 σ) g) ls st h k s := Rn.go mo116 rfl g ls st h k s
theorem r116_5 (σ : Nat → Value) (g : aG) (ls st : List Value) (h : aH) (k s : Nat) : Rn (aLk T116 σ) g 5 ls st h k s = (i_aload 1 6) g (Rn (aLk T116 σ) g) ls st h k s := Rn.go mo116 rfl g ls st h k s
theorem r116_6 (σ : Nat → Value) (g : aG) (ls st : List Value) (h : aH) (k s : Nat) : Rn (aLk T116 σ) g 6 ls st h k s = (i_putf 9 0 (.object "java/util/NavigableMap") 9) g (Rn (aLk T116 σ) g) ls st h k s := Rn.go mo116 rfl g ls st h k s
theorem r116_9 (σ : Nat → Value) (g : aG) (ls st : List Value) (h : aH) (k s : Nat) : Rn (aLk T116 σ) g 9 ls st h k s = (i_ret) g (Rn (aLk T116 σ) g) ls st h k s := Rn.go mo116 rfl g ls st h k s
theorem r117_0 (σ : Nat → Value) (g : aG) (ls st : List Value) (h : aH) (k s : Nat) : Rn (aLk T117 σ) g 0 ls st h k s = (i_aload 0 1) g (Rn (aLk T117 σ) g) ls st h k s := Rn.go mo117 rfl g ls st h k s
theorem r117_1 (σ : Nat → Value) (g : aG) (ls st : List Value) (h : aH) (k s : Nat) : Rn (aLk T117 σ) g 1 ls st h k s = (i_getf 9 0 4) g (Rn (aLk T117 σ) g) ls st h k s := Rn.go mo117 rfl g ls st h k s
theorem r117_4 (σ : Nat → Value) (g : aG) (ls st : List Value) (h : aH) (k s : Nat) : Rn (aLk T117 σ) g 4 ls st h k s = (i_aload 1 5) g (Rn (aLk T117 σ) g) ls st h k s := Rn.go mo117 rfl g ls st h k s
theorem r117_5 (σ : Nat → Value) (g : aG) (ls st : List Value) (h : aH) (k s : Nat) : Rn (aLk T117 σ) g 5 ls st h k s = (i_push (σ 3) 8) g (Rn (aLk T117 σ) g) ls st h k s := Rn.go mo117 rfl g ls st h k s
theorem r117_8 (σ : Nat → Value) (g : aG) (ls st : List Value) (h : aH) (k s : Nat) : Rn (aLk T117 σ) g 8 ls st h k s = (i_callV [(7, 108)] 2 [] 13) g (Rn (aLk T117 σ) g) ls st h k s := Rn.go mo117 rfl g ls st h k s
theorem r117_13 (σ : Nat → Value) (g : aG) (ls st : List Value) (h : aH) (k s : Nat) : Rn (aLk T117 σ) g 13 ls st h k s = (i_nnull 20 16) g (Rn (aLk T117 σ) g) ls st h k s := Rn.go mo117 rfl g ls st h k s
theorem r117_16 (σ : Nat → Value) (g : aG) (ls st : List Value) (h : aH) (k s : Nat) : Rn (aLk T117 σ) g 16 ls st h k s = (i_op (o_int 1) 17) g (Rn (aLk T117 σ) g) ls st h k s := Rn.go mo117 rfl g ls st h k s
theorem r117_17 (σ : Nat → Value) (g : aG) (ls st : List Value) (h : aH) (k s : Nat) : Rn (aLk T117 σ) g 17 ls st h k s = (i_goto 21) g (Rn (aLk T117 σ) g) ls st h k s := Rn.go mo117 rfl g ls st h k s
theorem r117_20 (σ : Nat → Value) (g : aG) (ls st : List Value) (h : aH) (k s : Nat) : Rn (aLk T117 σ) g 20 ls st h k s = (i_op (o_int 0) 21) g (Rn (aLk T117 σ) g) ls st h k s := Rn.go mo117 rfl g ls st h k s
theorem r117_21 (σ : Nat → Value) (g : aG) (ls st : List Value) (h : aH) (k s : Nat) : Rn (aLk T117 σ) g 21 ls st h k s = (i_iret .boolean) g (Rn (aLk T117 σ) g) ls st h k s := Rn.go mo117 rfl g ls st h k s
theorem r118_0 (σ : Nat → Value) (g : aG) (ls st : List Value) (h : aH) (k s : Nat) : Rn (aLk T118 σ) g 0 ls st h k s = (i_aload 0 1) g (Rn (aLk T118 σ) g) ls st h k s := Rn.go mo118 rfl g ls st h k s
theorem r118_1 (σ : Nat → Value) (g : aG) (ls st : List Value) (h : aH) (k s : Nat) : Rn (aLk T118 σ) g 1 ls st h k s = (i_getf 9 0 4) g (Rn (aLk T118 σ) g) ls st h k s := Rn.go mo118 rfl g ls st h k s
theorem r118_4 (σ : Nat → Value) (g : aG) (ls st : List Value) (h : aH) (k s : Nat) : Rn (aLk T118 σ) g 4 ls st h k s = (i_aload 1 5) g (Rn (aLk T118 σ) g) ls st h k s := Rn.go mo118 rfl g ls st h k s
theorem r118_5 (σ : Nat → Value) (g : aG) (ls st : List Value) (h : aH) (k s : Nat) : Rn (aLk T118 σ) g 5 ls st h k s = (i_callV [(7, 102)] 1 [] 10) g (Rn (aLk T118 σ) g) ls st h k s := Rn.go mo118 rfl g ls st h k s
theorem r118_10 (σ : Nat → Value) (g : aG) (ls st : List Value) (h : aH) (k s : Nat) : Rn (aLk T118 σ) g 10 ls st h k s = (i_iret .boolean) g (Rn (aLk T118 σ) g) ls st h k s := Rn.go mo118 rfl g ls st h k s
theorem r119_0 (σ : Nat → Value) (g : aG) (ls st : List Value) (h : aH) (k s : Nat) : Rn (aLk T119 σ) g 0 ls st h k s = (i_op (o_int 0) 1) g (Rn (aLk T119 σ) g) ls st h k s := Rn.go mo119 rfl g ls st h k s
theorem r119_1 (σ : Nat → Value) (g : aG) (ls st : List Value) (h : aH) (k s : Nat) : Rn (aLk T119 σ) g 1 ls st h k s = (i_istore 3 2) g (Rn (aLk T119 σ) g) ls st h k s := Rn.go mo119 rfl g ls st h k s
theorem r119_2 (σ : Nat → Value) (g : aG) (ls st : List Value) (h : aH) (k s : Nat) : Rn (aLk T119 σ) g 2 ls st h k s = (i_iload 2 3) g (Rn (aLk T119 σ) g) ls st h k s := Rn.go mo119 rfl g ls st h k s
theorem r119_3 (σ : Nat → Value) (g : aG) (ls st : List Value) (h : aH) (k s : Nat) : Rn (aLk T119 σ) g 3 ls st h k s = (i_op (o_int 1) 4) g (Rn (aLk T119 σ) g) ls st h k s := Rn.go mo119 rfl g ls st h k s
theorem r119_4 (σ : Nat → Value) (g : aG) (ls st : List Value) (h : aH) (k s : Nat) : Rn (aLk T119 σ) g 4 ls st h k s = (i_cle 48 7) g (Rn (aLk T119 σ) g) ls st h k s := Rn.go mo119 rfl g ls st h k s
theorem r119_7 (σ : Nat → Value) (g : aG) (ls st : List Value) (h : aH) (k s : Nat) : Rn (aLk T119 σ) g 7 ls st h k s = (i_aload 0 8) g (Rn (aLk T119 σ) g) ls st h k s := Rn.go mo119 rfl g ls st h k s
theorem r119_8 (σ : Nat → Value) (g : aG) (ls st : List Value) (h : aH) (k s : Nat) : Rn (aLk T119 σ) g 8 ls st h k s = (i_op (o_int 0) 9) g (Rn (aLk T119 σ) g) ls st h k s := Rn.go mo119 rfl g ls st h k s
theorem r119_9 (σ : Nat → Value) (g : aG) (ls st : List Value) (h : aH) (k s : Nat) : Rn (aLk T119 σ) g 9 ls st h k s = (i_iald 0 10) g (Rn (aLk T119 σ) g) ls st h k s := Rn.go mo119 rfl g ls st h k s
theorem r119_10 (σ : Nat → Value) (g : aG) (ls st : List Value) (h : aH) (k s : Nat) : Rn (aLk T119 σ) g 10 ls st h k s = (i_aload 1 11) g (Rn (aLk T119 σ) g) ls st h k s := Rn.go mo119 rfl g ls st h k s
theorem r119_11 (σ : Nat → Value) (g : aG) (ls st : List Value) (h : aH) (k s : Nat) : Rn (aLk T119 σ) g 11 ls st h k s = (i_op (o_int 0) 12) g (Rn (aLk T119 σ) g) ls st h k s := Rn.go mo119 rfl g ls st h k s
theorem r119_12 (σ : Nat → Value) (g : aG) (ls st : List Value) (h : aH) (k s : Nat) : Rn (aLk T119 σ) g 12 ls st h k s = (i_iald 0 13) g (Rn (aLk T119 σ) g) ls st h k s := Rn.go mo119 rfl g ls st h k s
theorem r119_13 (σ : Nat → Value) (g : aG) (ls st : List Value) (h : aH) (k s : Nat) : Rn (aLk T119 σ) g 13 ls st h k s = (i_ceq 18 16) g (Rn (aLk T119 σ) g) ls st h k s := Rn.go mo119 rfl g ls st h k s
theorem r119_16 (σ : Nat → Value) (g : aG) (ls st : List Value) (h : aH) (k s : Nat) : Rn (aLk T119 σ) g 16 ls st h k s = (i_op (o_int 0) 17) g (Rn (aLk T119 σ) g) ls st h k s := Rn.go mo119 rfl g ls st h k s
theorem r119_17 (σ : Nat → Value) (g : aG) (ls st : List Value) (h : aH) (k s : Nat) : Rn (aLk T119 σ) g 17 ls st h k s = (i_iret .int) g (Rn (aLk T119 σ) g) ls st h k s := Rn.go mo119 rfl g ls st h k s
theorem r119_18 (σ : Nat → Value) (g : aG) (ls st : List Value) (h : aH) (k s : Nat) : Rn (aLk T119 σ) g 18 ls st h k s = (i_aload 0 19) g (Rn (aLk T119 σ) g) ls st h k s := Rn.go mo119 rfl g ls st h k s
theorem r119_19 (σ : Nat → Value) (g : aG) (ls st : List Value) (h : aH) (k s : Nat) : Rn (aLk T119 σ) g 19 ls st h k s = (i_push (.int 16) 22) g (Rn (aLk T119 σ) g) ls st h k s := Rn.go mo119 rfl g ls st h k s
theorem r119_22 (σ : Nat → Value) (g : aG) (ls st : List Value) (h : aH) (k s : Nat) : Rn (aLk T119 σ) g 22 ls st h k s = (i_op o_i2l 23) g (Rn (aLk T119 σ) g) ls st h k s := Rn.go mo119 rfl g ls st h k s
theorem r119_23 (σ : Nat → Value) (g : aG) (ls st : List Value) (h : aH) (k s : Nat) : Rn (aLk T119 σ) g 23 ls st h k s = (i_aload 1 24) g (Rn (aLk T119 σ) g) ls st h k s := Rn.go mo119 rfl g ls st h k s
theorem r119_24 (σ : Nat → Value) (g : aG) (ls st : List Value) (h : aH) (k s : Nat) : Rn (aLk T119 σ) g 24 ls st h k s = (i_push (.int 16) 27) g (Rn (aLk T119 σ) g) ls st h k s := Rn.go mo119 rfl g ls st h k s
theorem r119_27 (σ : Nat → Value) (g : aG) (ls st : List Value) (h : aH) (k s : Nat) : Rn (aLk T119 σ) g 27 ls st h k s = (i_op o_i2l 28) g (Rn (aLk T119 σ) g) ls st h k s := Rn.go mo119 rfl g ls st h k s
theorem r119_28 (σ : Nat → Value) (g : aG) (ls st : List Value) (h : aH) (k s : Nat) : Rn (aLk T119 σ) g 28 ls st h k s = (i_iload 2 29) g (Rn (aLk T119 σ) g) ls st h k s := Rn.go mo119 rfl g ls st h k s
theorem r119_29 (σ : Nat → Value) (g : aG) (ls st : List Value) (h : aH) (k s : Nat) : Rn (aLk T119 σ) g 29 ls st h k s = (i_push (.int 2) 32) g (Rn (aLk T119 σ) g) ls st h k s := Rn.go mo119 rfl g ls st h k s
theorem r119_32 (σ : Nat → Value) (g : aG) (ls st : List Value) (h : aH) (k s : Nat) : Rn (aLk T119 σ) g 32 ls st h k s = (i_callS 121 6 [] 35) g (Rn (aLk T119 σ) g) ls st h k s := Rn.go mo119 rfl g ls st h k s
theorem r119_35 (σ : Nat → Value) (g : aG) (ls st : List Value) (h : aH) (k s : Nat) : Rn (aLk T119 σ) g 35 ls st h k s = (i_istore 3 36) g (Rn (aLk T119 σ) g) ls st h k s := Rn.go mo119 rfl g ls st h k s
theorem r119_36 (σ : Nat → Value) (g : aG) (ls st : List Value) (h : aH) (k s : Nat) : Rn (aLk T119 σ) g 36 ls st h k s = (i_iload 3 37) g (Rn (aLk T119 σ) g) ls st h k s := Rn.go mo119 rfl g ls st h k s
theorem r119_37 (σ : Nat → Value) (g : aG) (ls st : List Value) (h : aH) (k s : Nat) : Rn (aLk T119 σ) g 37 ls st h k s = (i_iflt 42 40) g (Rn (aLk T119 σ) g) ls st h k s := Rn.go mo119 rfl g ls st h k s
theorem r119_40 (σ : Nat → Value) (g : aG) (ls st : List Value) (h : aH) (k s : Nat) : Rn (aLk T119 σ) g 40 ls st h k s = (i_iload 3 41) g (Rn (aLk T119 σ) g) ls st h k s := Rn.go mo119 rfl g ls st h k s
theorem r119_41 (σ : Nat → Value) (g : aG) (ls st : List Value) (h : aH) (k s : Nat) : Rn (aLk T119 σ) g 41 ls st h k s = (i_iret .int) g (Rn (aLk T119 σ) g) ls st h k s := Rn.go mo119 rfl g ls st h k s
theorem r119_42 (σ : Nat → Value) (g : aG) (ls st : List Value) (h : aH) (k s : Nat) : Rn (aLk T119 σ) g 42 ls st h k s = (i_iload 2 43) g (Rn (aLk T119 σ) g) ls st h k s := Rn.go mo119 rfl g ls st h k s
theorem r119_43 (σ : Nat → Value) (g : aG) (ls st : List Value) (h : aH) (k s : Nat) : Rn (aLk T119 σ) g 43 ls st h k s = (i_iload 3 44) g (Rn (aLk T119 σ) g) ls st h k s := Rn.go mo119 rfl g ls st h k s
theorem r119_44 (σ : Nat → Value) (g : aG) (ls st : List Value) (h : aH) (k s : Nat) : Rn (aLk T119 σ) g 44 ls st h k s = (i_op (o_int (-1)) 45) g (Rn (aLk T119 σ) g) ls st h k s := Rn.go mo119 rfl g ls st h k s
theorem r119_45 (σ : Nat → Value) (g : aG) (ls st : List Value) (h : aH) (k s : Nat) : Rn (aLk T119 σ) g 45 ls st h k s = (i_op o_ixor 46) g (Rn (aLk T119 σ) g) ls st h k s := Rn.go mo119 rfl g ls st h k s
theorem r119_46 (σ : Nat → Value) (g : aG) (ls st : List Value) (h : aH) (k s : Nat) : Rn (aLk T119 σ) g 46 ls st h k s = (i_op o_isub 47) g (Rn (aLk T119 σ) g) ls st h k s := Rn.go mo119 rfl g ls st h k s
theorem r119_47 (σ : Nat → Value) (g : aG) (ls st : List Value) (h : aH) (k s : Nat) : Rn (aLk T119 σ) g 47 ls st h k s = (i_istore 3 48) g (Rn (aLk T119 σ) g) ls st h k s := Rn.go mo119 rfl g ls st h k s
theorem r119_48 (σ : Nat → Value) (g : aG) (ls st : List Value) (h : aH) (k s : Nat) : Rn (aLk T119 σ) g 48 ls st h k s = (i_iload 3 49) g (Rn (aLk T119 σ) g) ls st h k s := Rn.go mo119 rfl g ls st h k s
theorem r119_49 (σ : Nat → Value) (g : aG) (ls st : List Value) (h : aH) (k s : Nat) : Rn (aLk T119 σ) g 49 ls st h k s = (i_iload 2 50) g (Rn (aLk T119 σ) g) ls st h k s := Rn.go mo119 rfl g ls st h k s
theorem r119_50 (σ : Nat → Value) (g : aG) (ls st : List Value) (h : aH) (k s : Nat) : Rn (aLk T119 σ) g 50 ls st h k s = (i_cge 70 53) g (Rn (aLk T119 σ) g) ls st h k s := Rn.go mo119 rfl g ls st h k s
theorem r119_53 (σ : Nat → Value) (g : aG) (ls st : List Value) (h : aH) (k s : Nat) : Rn (aLk T119 σ) g 53 ls st h k s = (i_aload 0 54) g (Rn (aLk T119 σ) g) ls st h k s := Rn.go mo119 rfl g ls st h k s
theorem r119_54 (σ : Nat → Value) (g : aG) (ls st : List Value) (h : aH) (k s : Nat) : Rn (aLk T119 σ) g 54 ls st h k s = (i_iload 3 55) g (Rn (aLk T119 σ) g) ls st h k s := Rn.go mo119 rfl g ls st h k s
theorem r119_55 (σ : Nat → Value) (g : aG) (ls st : List Value) (h : aH) (k s : Nat) : Rn (aLk T119 σ) g 55 ls st h k s = (i_iald 0 56) g (Rn (aLk T119 σ) g) ls st h k s := Rn.go mo119 rfl g ls st h k s
theorem r119_56 (σ : Nat → Value) (g : aG) (ls st : List Value) (h : aH) (k s : Nat) : Rn (aLk T119 σ) g 56 ls st h k s = (i_aload 1 57) g (Rn (aLk T119 σ) g) ls st h k s := Rn.go mo119 rfl g ls st h k s
theorem r119_57 (σ : Nat → Value) (g : aG) (ls st : List Value) (h : aH) (k s : Nat) : Rn (aLk T119 σ) g 57 ls st h k s = (i_iload 3 58) g (Rn (aLk T119 σ) g) ls st h k s := Rn.go mo119 rfl g ls st h k s
theorem r119_58 (σ : Nat → Value) (g : aG) (ls st : List Value) (h : aH) (k s : Nat) : Rn (aLk T119 σ) g 58 ls st h k s = (i_iald 0 59) g (Rn (aLk T119 σ) g) ls st h k s := Rn.go mo119 rfl g ls st h k s
theorem r119_59 (σ : Nat → Value) (g : aG) (ls st : List Value) (h : aH) (k s : Nat) : Rn (aLk T119 σ) g 59 ls st h k s = (i_ceq 64 62) g (Rn (aLk T119 σ) g) ls st h k s := Rn.go mo119 rfl g ls st h k s
theorem r119_62 (σ : Nat → Value) (g : aG) (ls st : List Value) (h : aH) (k s : Nat) : Rn (aLk T119 σ) g 62 ls st h k s = (i_iload 3 63) g (Rn (aLk T119 σ) g) ls st h k s := Rn.go mo119 rfl g ls st h k s
theorem r119_63 (σ : Nat → Value) (g : aG) (ls st : List Value) (h : aH) (k s : Nat) : Rn (aLk T119 σ) g 63 ls st h k s = (i_iret .int) g (Rn (aLk T119 σ) g) ls st h k s := Rn.go mo119 rfl g ls st h k s
theorem r119_64 (σ : Nat → Value) (g : aG) (ls st : List Value) (h : aH) (k s : Nat) : Rn (aLk T119 σ) g 64 ls st h k s = (i_iinc 3 1 67) g (Rn (aLk T119 σ) g) ls st h k s := Rn.go mo119 rfl g ls st h k s
theorem r119_67 (σ : Nat → Value) (g : aG) (ls st : List Value) (h : aH) (k s : Nat) : Rn (aLk T119 σ) g 67 ls st h k s = (i_goto 48) g (Rn (aLk T119 σ) g) ls st h k s := Rn.go mo119 rfl g ls st h k s
theorem r119_70 (σ : Nat → Value) (g : aG) (ls st : List Value) (h : aH) (k s : Nat) : Rn (aLk T119 σ) g 70 ls st h k s = (i_op (o_int (-1)) 71) g (Rn (aLk T119 σ) g) ls st h k s := Rn.go mo119 rfl g ls st h k s
theorem r119_71 (σ : Nat → Value) (g : aG) (ls st : List Value) (h : aH) (k s : Nat) : Rn (aLk T119 σ) g 71 ls st h k s = (i_iret .int) g (Rn (aLk T119 σ) g) ls st h k s := Rn.go mo119 rfl g ls st h k s
theorem r120_0 (σ : Nat → Value) (g : aG) (ls st : List Value) (h : aH) (k s : Nat) : Rn (aLk T120 σ) g 0 ls st h k s = (i_iload 0 1) g (Rn (aLk T120 σ) g) ls st h k s := Rn.go mo120 rfl g ls st h k s
theorem r120_1 (σ : Nat → Value) (g : aG) (ls st : List Value) (h : aH) (k s : Nat) : Rn (aLk T120 σ) g 1 ls st h k s = (i_iload 1 2) g (Rn (aLk T120 σ) g) ls st h k s := Rn.go mo120 rfl g ls st h k s
theorem r120_2 (σ : Nat → Value) (g : aG) (ls st : List Value) (h : aH) (k s : Nat) : Rn (aLk T120 σ) g 2 ls st h k s = (i_iload 2 3) g (Rn (aLk T120 σ) g) ls st h k s := Rn.go mo120 rfl g ls st h k s
theorem r120_3 (σ : Nat → Value) (g : aG) (ls st : List Value) (h : aH) (k s : Nat) : Rn (aLk T120 σ) g 3 ls st h k s = (i_mmax 6) g (Rn (aLk T120 σ) g) ls st h k s := Rn.go mo120 rfl g ls st h k s
theorem r120_6 (σ : Nat → Value) (g : aG) (ls st : List Value) (h : aH) (k s : Nat) : Rn (aLk T120 σ) g 6 ls st h k s = (i_op o_iadd 7) g (Rn (aLk T120 σ) g) ls st h k s := Rn.go mo120 rfl g ls st h k s
theorem r120_7 (σ : Nat → Value) (g : aG) (ls st : List Value) (h : aH) (k s : Nat) : Rn (aLk T120 σ) g 7 ls st h k s = (i_istore 3 8) g (Rn (aLk T120 σ) g) ls st h k s := Rn.go mo120 rfl g ls st h k s
theorem r120_8 (σ : Nat → Value) (g : aG) (ls st : List Value) (h : aH) (k s : Nat) : Rn (aLk T120 σ) g 8 ls st h k s = (i_op (o_int 0) 9) g (Rn (aLk T120 σ) g) ls st h k s := Rn.go mo120 rfl g ls st h k s
theorem r120_9 (σ : Nat → Value) (g : aG) (ls st : List Value) (h : aH) (k s : Nat) : Rn (aLk T120 σ) g 9 ls st h k s = (i_iload 3 10) g (Rn (aLk T120 σ) g) ls st h k s := Rn.go mo120 rfl g ls st h k s
theorem r120_10 (σ : Nat → Value) (g : aG) (ls st : List Value) (h : aH) (k s : Nat) : Rn (aLk T120 σ) g 10 ls st h k s = (i_cge 21 13) g (Rn (aLk T120 σ) g) ls st h k s := Rn.go mo120 rfl g ls st h k s
theorem r120_13 (σ : Nat → Value) (g : aG) (ls st : List Value) (h : aH) (k s : Nat) : Rn (aLk T120 σ) g 13 ls st h k s = (i_iload 3 14) g (Rn (aLk T120 σ) g) ls st h k s := Rn.go mo120 rfl g ls st h k s
theorem r120_14 (σ : Nat → Value) (g : aG) (ls st : List Value) (h : aH) (k s : Nat) : Rn (aLk T120 σ) g 14 ls st h k s = (i_op (o_int 2147483639) 16) g (Rn (aLk T120 σ) g) ls st h k s := Rn.go mo120 rfl g ls st h k s
theorem r120_16 (σ : Nat → Value) (g : aG) (ls st : List Value) (h : aH) (k s : Nat) : Rn (aLk T120 σ) g 16 ls st h k s = (i_cgt 21 19) g (Rn (aLk T120 σ) g) ls st h k s := Rn.go mo120 rfl g ls st h k s
theorem r120_19 (σ : Nat → Value) (g : aG) (ls st : List Value) (h : aH) (k s : Nat) : Rn (aLk T120 σ) g 19 ls st h k s = (i_iload 3 20) g (Rn (aLk T120 σ) g) ls st h k s := Rn.go mo120 rfl g ls st h k s
theorem r120_20 (σ : Nat → Value) (g : aG) (ls st : List Value) (h : aH) (k s : Nat) : Rn (aLk T120 σ) g 20 ls st h k s = (i_iret .int) g (Rn (aLk T120 σ) g) ls st h k s := Rn.go mo120 rfl g ls st h k s
theorem r120_21 (σ : Nat → Value) (g : aG) (ls st : List Value) (h : aH) (k s : Nat) : Rn (aLk T120 σ) g 21 ls st h k s = (i_iload 0 22) g (Rn (aLk T120 σ) g) ls st h k s := Rn.go mo120 rfl g ls st h k s
theorem r120_22 (σ : Nat → Value) (g : aG) (ls st : List Value) (h : aH) (k s : Nat) : Rn (aLk T120 σ) g 22 ls st h k s = (i_iload 1 23) g (Rn (aLk T120 σ) g) ls st h k s := Rn.go mo120 rfl g ls st h k s
theorem r120_26 (σ : Nat → Value) (g : aG) (ls st : List Value) (h : aH) (k s : Nat) : Rn (aLk T120 σ) g 26 ls st h k s = (i_iret .int) g (Rn (aLk T120 σ) g) ls st h k s := Rn.go mo120 rfl g ls st h k s
theorem r121_0 (σ : Nat → Value) (g : aG) (ls st : List Value) (h : aH) (k s : Nat) : Rn (aLk T121 σ) g 0 ls st h k s = (i_push (.int 3) 3) g (Rn (aLk T121 σ) g) ls st h k s := Rn.go mo121 rfl g ls st h k s
theorem r121_3 (σ : Nat → Value) (g : aG) (ls st : List Value) (h : aH) (k s : Nat) : Rn (aLk T121 σ) g 3 ls st h k s = (i_iload 7 5) g (Rn (aLk T121 σ) g) ls st h k s := Rn.go mo121 rfl g ls st h k s
theorem r121_5 (σ : Nat → Value) (g : aG) (ls st : List Value) (h : aH) (k s : Nat) : Rn (aLk T121 σ) g 5 ls st h k s = (i_op o_isub 6) g (Rn (aLk T121 σ) g) ls st h k s := Rn.go mo121 rfl g ls st h k s
theorem r121_6 (σ : Nat → Value) (g : aG) (ls st : List Value) (h : aH) (k s : Nat) : Rn (aLk T121 σ) g 6 ls st h k s = (i_istore 8 8) g (Rn (aLk T121 σ) g) ls st h k s := Rn.go mo121 rfl g ls st h k s
theorem r121_8 (σ : Nat → Value) (g : aG) (ls st : List Value) (h : aH) (k s : Nat) : Rn (aLk T121 σ) g 8 ls st h k s = (i_op (o_int 0) 9) g (Rn (aLk T121 σ) g) ls st h k s := Rn.go mo121 rfl g ls st h k s
theorem r121_9 (σ : Nat → Value) (g : aG) (ls st : List Value) (h : aH) (k s : Nat) : Rn (aLk T121 σ) g 9 ls st h k s = (i_istore 9 11) g (Rn (aLk T121 σ) g) ls st h k s := Rn.go mo121 rfl g ls st h k s
theorem r121_11 (σ : Nat → Value) (g : aG) (ls st : List Value) (h : aH) (k s : Nat) : Rn (aLk T121 σ) g 11 ls st h k s = (i_iload 9 13) g (Rn (aLk T121 σ) g) ls st h k s := Rn.go mo121 rfl g ls st h k s
theorem r121_13 (σ : Nat → Value) (g : aG) (ls st : List Value) (h : aH) (k s : Nat) : Rn (aLk T121 σ) g 13 ls st h k s = (i_iload 6 15) g (Rn (aLk T121 σ) g) ls st h k s := Rn.go mo121 rfl g ls st h k s
theorem r121_15 (σ : Nat → Value) (g : aG) (ls st : List Value) (h : aH) (k s : Nat) : Rn (aLk T121 σ) g 15 ls st h k s = (i_iload 8 17) g (Rn (aLk T121 σ) g) ls st h k s := Rn.go mo121 rfl g ls st h k s
theorem r121_17 (σ : Nat → Value) (g : aG) (ls st : List Value) (h : aH) (k s : Nat) : Rn (aLk T121 σ) g 17 ls st h k s = (i_op o_ishr 18) g (Rn (aLk T121 σ) g) ls st h k s := Rn.go mo121 rfl g ls st h k s
theorem r121_18 (σ : Nat → Value) (g : aG) (ls st : List Value) (h : aH) (k s : Nat) : Rn (aLk T121 σ) g 18 ls st h k s = (i_cge 122 21) g (Rn (aLk T121 σ) g) ls st h k s := Rn.go mo121 rfl g ls st h k s
theorem r121_21 (σ : Nat → Value) (g : aG) (ls st : List Value) (h : aH) (k s : Nat) : Rn (aLk T121 σ) g 21 ls st h k s = (i_iload 9 23) g (Rn (aLk T121 σ) g) ls st h k s := Rn.go mo121 rfl g ls st h k s
theorem r121_23 (σ : Nat → Value) (g : aG) (ls st : List Value) (h : aH) (k s : Nat) : Rn (aLk T121 σ) g 23 ls st h k s = (i_op o_i2l 24) g (Rn (aLk T121 σ) g) ls st h k s := Rn.go mo121 rfl g ls st h k s
theorem r121_24 (σ : Nat → Value) (g : aG) (ls st : List Value) (h : aH) (k s : Nat) : Rn (aLk T121 σ) g 24 ls st h k s = (i_push (.int 3) 27) g (Rn (aLk T121 σ) g) ls st h k s := Rn.go mo121 rfl g ls st h k s
theorem r121_27 (σ : Nat → Value) (g : aG) (ls st : List Value) (h : aH) (k s : Nat) : Rn (aLk T121 σ) g 27 ls st h k s = (i_op o_lshl 28) g (Rn (aLk T121 σ) g) ls st h k s := Rn.go mo121 rfl g ls st h k s
theorem r121_28 (σ : Nat → Value) (g : aG) (ls st : List Value) (h : aH) (k s : Nat) : Rn (aLk T121 σ) g 28 ls st h k s = (i_lstore 10 30) g (Rn (aLk T121 σ) g) ls st h k s := Rn.go mo121 rfl g ls st h k s
theorem r121_30 (σ : Nat → Value) (g : aG) (ls st : List Value) (h : aH) (k s : Nat) : Rn (aLk T121 σ) g 30 ls st h k s = (i_push (σ 4) 33) g (Rn (aLk T121 σ) g) ls st h k s := Rn.go mo121 rfl g ls st h k s
theorem r121_33 (σ : Nat → Value) (g : aG) (ls st : List Value) (h : aH) (k s : Nat) : Rn (aLk T121 σ) g 33 ls st h k s = (i_aload 0 34) g (Rn (aLk T121 σ) g) ls st h k s := Rn.go mo121 rfl g ls st h k s
theorem r121_34 (σ : Nat → Value) (g : aG) (ls st : List Value) (h : aH) (k s : Nat) : Rn (aLk T121 σ) g 34 ls st h k s = (i_lload 1 35) g (Rn (aLk T121 σ) g) ls st h k s := Rn.go mo121 rfl g ls st h k s
theorem r121_35 (σ : Nat → Value) (g : aG) (ls st : List Value) (h : aH) (k s : Nat) : Rn (aLk T121 σ) g 35 ls st h k s = (i_lload 10 37) g (Rn (aLk T121 σ) g) ls st h k s := Rn.go mo121 rfl g ls st h k s
theorem r121_37 (σ : Nat → Value) (g : aG) (ls st : List Value) (h : aH) (k s : Nat) : Rn (aLk T121 σ) g 37 ls st h k s = (i_op o_ladd 38) g (Rn (aLk T121 σ) g) ls st h k s := Rn.go mo121 rfl g ls st h k s
theorem r121_38 (σ : Nat → Value) (g : aG) (ls st : List Value) (h : aH) (k s : Nat) : Rn (aLk T121 σ) g 38 ls st h k s = (i_callU (σ 4) 340 2 [] 41) g (Rn (aLk T121 σ) g) ls st h k s := Rn.go mo121 rfl g ls st h k s
theorem r121_41 (σ : Nat → Value) (g : aG) (ls st : List Value) (h : aH) (k s : Nat) : Rn (aLk T121 σ) g 41 ls st h k s = (i_lstore 12 43) g (Rn (aLk T121 σ) g) ls st h k s := Rn.go mo121 rfl g ls st h k s
theorem r121_43 (σ : Nat → Value) (g : aG) (ls st : List Value) (h : aH) (k s : Nat) : Rn (aLk T121 σ) g 43 ls st h k s = (i_push (σ 4) 46) g (Rn (aLk T121 σ) g) ls st h k s := Rn.go mo121 rfl g ls st h k s
theorem r121_46 (σ : Nat → Value) (g : aG) (ls st : List Value) (h : aH) (k s : Nat) : Rn (aLk T121 σ) g 46 ls st h k s = (i_aload 3 47) g (Rn (aLk T121 σ) g) ls st h k s := Rn.go mo121 rfl g ls st h k s
theorem r121_47 (σ : Nat → Value) (g : aG) (ls st : List Value) (h : aH) (k s : Nat) : Rn (aLk T121 σ) g 47 ls st h k s = (i_lload 4 49) g (Rn (aLk T121 σ) g) ls st h k s := Rn.go mo121 rfl g ls st h k s
theorem r121_49 (σ : Nat → Value) (g : aG) (ls st : List Value) (h : aH) (k s : Nat) : Rn (aLk T121 σ) g 49 ls st h k s = (i_lload 10 51) g (Rn (aLk T121 σ) g) ls st h k s := Rn.go mo121 rfl g ls st h k s
theorem r121_51 (σ : Nat → Value) (g : aG) (ls st : List Value) (h : aH) (k s : Nat) : Rn (aLk T121 σ) g 51 ls st h k s = (i_op o_ladd 52) g (Rn (aLk T121 σ) g) ls st h k s := Rn.go mo121 rfl g ls st h k s
theorem r121_52 (σ : Nat → Value) (g : aG) (ls st : List Value) (h : aH) (k s : Nat) : Rn (aLk T121 σ) g 52 ls st h k s = (i_callU (σ 4) 340 2 [] 55) g (Rn (aLk T121 σ) g) ls st h k s := Rn.go mo121 rfl g ls st h k s
theorem r121_55 (σ : Nat → Value) (g : aG) (ls st : List Value) (h : aH) (k s : Nat) : Rn (aLk T121 σ) g 55 ls st h k s = (i_lstore 14 57) g (Rn (aLk T121 σ) g) ls st h k s := Rn.go mo121 rfl g ls st h k s
theorem r121_57 (σ : Nat → Value) (g : aG) (ls st : List Value) (h : aH) (k s : Nat) : Rn (aLk T121 σ) g 57 ls st h k s = (i_lload 12 59) g (Rn (aLk T121 σ) g) ls st h k s := Rn.go mo121 rfl g ls st h k s
theorem r121_59 (σ : Nat → Value) (g : aG) (ls st : List Value) (h : aH) (k s : Nat) : Rn (aLk T121 σ) g 59 ls st h k s = (i_lload 14 61) g (Rn (aLk T121 σ) g) ls st h k s := Rn.go mo121 rfl g ls st h k s
theorem r121_61 (σ : Nat → Value) (g : aG) (ls st : List Value) (h : aH) (k s : Nat) : Rn (aLk T121 σ) g 61 ls st h k s = (i_op o_lcmp 62) g (Rn (aLk T121 σ) g) ls st h k s := Rn.go mo121 rfl g ls st h k s
theorem r121_62 (σ : Nat → Value) (g : aG) (ls st : List Value) (h : aH) (k s : Nat) : Rn (aLk T121 σ) g 62 ls st h k s = (i_ifeq 116 65) g (Rn (aLk T121 σ) g) ls st h k s := Rn.go mo121 rfl g ls st h k s
theorem r121_65 (σ : Nat → Value) (g : aG) (ls st : List Value) (h : aH) (k s : Nat) : Rn (aLk T121 σ) g 65 ls st h k s = (i_lload 12 67) g (Rn (aLk T121 σ) g) ls st h k s := Rn.go mo121 rfl g ls st h k s
theorem r121_67 (σ : Nat → Value) (g : aG) (ls st : List Value) (h : aH) (k s : Nat) : Rn (aLk T121 σ) g 67 ls st h k s = (i_lload 14 69) g (Rn (aLk T121 σ) g) ls st h k s := Rn.go mo121 rfl g ls st h k s
theorem r121_69 (σ : Nat → Value) (g : aG) (ls st : List Value) (h : aH) (k s : Nat) : Rn (aLk T121 σ) g 69 ls st h k s = (i_op o_lxor 70) g (Rn (aLk T121 σ) g) ls st h k s := Rn.go mo121 rfl g ls st h k s
theorem r121_70 (σ : Nat → Value) (g : aG) (ls st : List Value) (h : aH) (k s : Nat) : Rn (aLk T121 σ) g 70 ls st h k s = (i_lstore 16 72) g (Rn (aLk T121 σ) g) ls st h k s := Rn.go mo121 rfl g ls st h k s
theorem r121_72 (σ : Nat → Value) (g : aG) (ls st : List Value) (h : aH) (k s : Nat) : Rn (aLk T121 σ) g 72 ls st h k s = (i_push (.int 0) 75) g (Rn (aLk T121 σ) g) ls st h k s := Rn.go mo121 rfl g ls st h k s
theorem r121_75 (σ : Nat → Value) (g : aG) (ls st : List Value) (h : aH) (k s : Nat) : Rn (aLk T121 σ) g 75 ls st h k s = (i_ifeq 93 78) g (Rn (aLk T121 σ) g) ls st h k s := Rn.go mo121 rfl g ls st h k s
theorem r121_78 (σ : Nat → Value) (g : aG) (ls st : List Value) (h : aH) (k s : Nat) : Rn (aLk T121 σ) g 78 ls st h k s = (i_lload 16 80) g (Rn (aLk T121 σ) g) ls st h k s := Rn.go mo121 rfl g ls st h k s
theorem r121_83 (σ : Nat → Value) (g : aG) (ls st : List Value) (h : aH) (k s : Nat) : Rn (aLk T121 σ) g 83 ls st h k s = (i_push (.int 3) 86) g (Rn (aLk T121 σ) g) ls st h k s := Rn.go mo121 rfl g ls st h k s
theorem r121_86 (σ : Nat → Value) (g : aG) (ls st : List Value) (h : aH) (k s : Nat) : Rn (aLk T121 σ) g 86 ls st h k s = (i_iload 7 88) g (Rn (aLk T121 σ) g) ls st h k s := Rn.go mo121 rfl g ls st h k s
theorem r121_88 (σ : Nat → Value) (g : aG) (ls st : List Value) (h : aH) (k s : Nat) : Rn (aLk T121 σ) g 88 ls st h k s = (i_op o_iadd 89) g (Rn (aLk T121 σ) g) ls st h k s := Rn.go mo121 rfl g ls st h k s
theorem r121_89 (σ : Nat → Value) (g : aG) (ls st : List Value) (h : aH) (k s : Nat) : Rn (aLk T121 σ) g 89 ls st h k s = (i_op o_ishr 90) g (Rn (aLk T121 σ) g) ls st h k s := Rn.go mo121 rfl g ls st h k s
theorem r121_90 (σ : Nat → Value) (g : aG) (ls st : List Value) (h : aH) (k s : Nat) : Rn (aLk T121 σ) g 90 ls st h k s = (i_goto 105) g (Rn (aLk T121 σ) g) ls st h k s := Rn.go mo121 rfl g ls st h k s
theorem r121_93 (σ : Nat → Value) (g : aG) (ls st : List Value) (h : aH) (k s : Nat) : Rn (aLk T121 σ) g 93 ls st h k s = (i_lload 16 95) g (Rn (aLk T121 σ) g) ls st h k s := Rn.go mo121 rfl g ls st h k s
theorem r121_98 (σ : Nat → Value) (g : aG) (ls st : List Value) (h : aH) (k s : Nat) : Rn (aLk T121 σ) g 98 ls st h k s = (i_push (.int 3) 101) g (Rn (aLk T121 σ) g) ls st h k s := Rn.go mo121 rfl g ls st h k s
theorem r121_101 (σ : Nat → Value) (g : aG) (ls st : List Value) (h : aH) (k s : Nat) : Rn (aLk T121 σ) g 101 ls st h k s = (i_iload 7 103) g (Rn (aLk T121 σ) g) ls st h k s := Rn.go mo121 rfl g ls st h k s
theorem r121_103 (σ : Nat → Value) (g : aG) (ls st : List Value) (h : aH) (k s : Nat) : Rn (aLk T121 σ) g 103 ls st h k s = (i_op o_iadd 104) g (Rn (aLk T121 σ) g) ls st h k s := Rn.go mo121 rfl g ls st h k s
theorem r121_104 (σ : Nat → Value) (g : aG) (ls st : List Value) (h : aH) (k s : Nat) : Rn (aLk T121 σ) g 104 ls st h k s = (i_op o_ishr 105) g (Rn (aLk T121 σ) g) ls st h k s := Rn.go mo121 rfl g ls st h k s
theorem r121_105 (σ : Nat → Value) (g : aG) (ls st : List Value) (h : aH) (k s : Nat) : Rn (aLk T121 σ) g 105 ls st h k s = (i_istore 18 107) g (Rn (aLk T121 σ) g) ls st h k s := Rn.go mo121 rfl g ls st h k s
theorem r121_107 (σ : Nat → Value) (g : aG) (ls st : List Value) (h : aH) (k s : Nat) : Rn (aLk T121 σ) g 107 ls st h k s = (i_iload 9 109) g (Rn (aLk T121 σ) g) ls st h k s := Rn.go mo121 rfl g ls st h k s
theorem r121_109 (σ : Nat → Value) (g : aG) (ls st : List Value) (h : aH) (k s : Nat) : Rn (aLk T121 σ) g 109 ls st h k s = (i_iload 8 111) g (Rn (aLk T121 σ) g) ls st h k s := Rn.go mo121 rfl g ls st h k s
theorem r121_111 (σ : Nat → Value) (g : aG) (ls st : List Value) (h : aH) (k s : Nat) : Rn (aLk T121 σ) g 111 ls st h k s = (i_op o_ishl 112) g (Rn (aLk T121 σ) g) ls st h k s := Rn.go mo121 rfl g ls st h k s
theorem r121_112 (σ : Nat → Value) (g : aG) (ls st : List Value) (h : aH) (k s : Nat) : Rn (aLk T121 σ) g 112 ls st h k s = (i_iload 18 114) g (Rn (aLk T121 σ) g) ls st h k s := Rn.go mo121 rfl g ls st h k s
theorem r121_114 (σ : Nat → Value) (g : aG) (ls st : List Value) (h : aH) (k s : Nat) : Rn (aLk T121 σ) g 114 ls st h k s = (i_op o_iadd 115) g (Rn (aLk T121 σ) g) ls st h k s := Rn.go mo121 rfl g ls st h k s
theorem r121_115 (σ : Nat → Value) (g : aG) (ls st : List Value) (h : aH) (k s : Nat) : Rn (aLk T121 σ) g 115 ls st h k s = (i_iret .int) g (Rn (aLk T121 σ) g) ls st h k s := Rn.go mo121 rfl g ls st h k s
theorem r121_116 (σ : Nat → Value) (g : aG) (ls st : List Value) (h : aH) (k s : Nat) : Rn (aLk T121 σ) g 116 ls st h k s = (i_iinc 9 1 119) g (Rn (aLk T121 σ) g) ls st h k s := Rn.go mo121 rfl g ls st h k s
theorem r121_119 (σ : Nat → Value) (g : aG) (ls st : List Value) (h : aH) (k s : Nat) : Rn (aLk T121 σ) g 119 ls st h k s = (i_goto 11) g (Rn (aLk T121 σ) g) ls st h k s := Rn.go mo121 rfl g ls st h k s
theorem r121_122 (σ : Nat → Value) (g : aG) (ls st : List Value) (h : aH) (k s : Nat) : Rn (aLk T121 σ) g 122 ls st h k s = (i_iload 6 124) g (Rn (aLk T121 σ) g) ls st h k s := Rn.go mo121 rfl g ls st h k s
theorem r121_124 (σ : Nat → Value) (g : aG) (ls st : List Value) (h : aH) (k s : Nat) : Rn (aLk T121 σ) g 124 ls st h k s = (i_iload 9 126) g (Rn (aLk T121 σ) g) ls st h k s := Rn.go mo121 rfl g ls st h k s
theorem r121_126 (σ : Nat → Value) (g : aG) (ls st : List Value) (h : aH) (k s : Nat) : Rn (aLk T121 σ) g 126 ls st h k s = (i_iload 8 128) g (Rn (aLk T121 σ) g) ls st h k s := Rn.go mo121 rfl g ls st h k s
theorem r121_128 (σ : Nat → Value) (g : aG) (ls st : List Value) (h : aH) (k s : Nat) : Rn (aLk T121 σ) g 128 ls st h k s = (i_op o_ishl 129) g (Rn (aLk T121 σ) g) ls st h k s := Rn.go mo121 rfl g ls st h k s
theorem r121_129 (σ : Nat → Value) (g : aG) (ls st : List Value) (h : aH) (k s : Nat) : Rn (aLk T121 σ) g 129 ls st h k s = (i_op o_isub 130) g (Rn (aLk T121 σ) g) ls st h k s := Rn.go mo121 rfl g ls st h k s
theorem r121_130 (σ : Nat → Value) (g : aG) (ls st : List Value) (h : aH) (k s : Nat) : Rn (aLk T121 σ) g 130 ls st h k s = (i_istore 10 132) g (Rn (aLk T121 σ) g) ls st h k s := Rn.go mo121 rfl g ls st h k s
theorem r121_132 (σ : Nat → Value) (g : aG) (ls st : List Value) (h : aH) (k s : Nat) : Rn (aLk T121 σ) g 132 ls st h k s = (i_iload 7 134) g (Rn (aLk T121 σ) g) ls st h k s := Rn.go mo121 rfl g ls st h k s
theorem r121_134 (σ : Nat → Value) (g : aG) (ls st : List Value) (h : aH) (k s : Nat) : Rn (aLk T121 σ) g 134 ls st h k s = (i_push (.int 2) 137) g (Rn (aLk T121 σ) g) ls st h k s := Rn.go mo121 rfl g ls st h k s
theorem r121_137 (σ : Nat → Value) (g : aG) (ls st : List Value) (h : aH) (k s : Nat) : Rn (aLk T121 σ) g 137 ls st h k s = (i_cge 263 140) g (Rn (aLk T121 σ) g) ls st h k s := Rn.go mo121 rfl g ls st h k s
theorem r121_140 (σ : Nat → Value) (g : aG) (ls st : List Value) (h : aH) (k s : Nat) : Rn (aLk T121 σ) g 140 ls st h k s = (i_op (o_int 1) 141) g (Rn (aLk T121 σ) g) ls st h k s := Rn.go mo121 rfl g ls st h k s
theorem r121_141 (σ : Nat → Value) (g : aG) (ls st : List Value) (h : aH) (k s : Nat) : Rn (aLk T121 σ) g 141 ls st h k s = (i_push (.int 2) 144) g (Rn (aLk T121 σ) g) ls st h k s := Rn.go mo121 rfl g ls st h k s
theorem r121_144 (σ : Nat → Value) (g : aG) (ls st : List Value) (h : aH) (k s : Nat) : Rn (aLk T121 σ) g 144 ls st h k s = (i_iload 7 146) g (Rn (aLk T121 σ) g) ls st h k s := Rn.go mo121 rfl g ls st h k s
theorem r121_146 (σ : Nat → Value) (g : aG) (ls st : List Value) (h : aH) (k s : Nat) : Rn (aLk T121 σ) g 146 ls st h k s = (i_op o_isub 147) g (Rn (aLk T121 σ) g) ls st h k s := Rn.go mo121 rfl g ls st h k s
theorem r121_147 (σ : Nat → Value) (g : aG) (ls st : List Value) (h : aH) (k s : Nat) : Rn (aLk T121 σ) g 147 ls st h k s = (i_op o_ishl 148) g (Rn (aLk T121 σ) g) ls st h k s := Rn.go mo121 rfl g ls st h k s
theorem r121_148 (σ : Nat → Value) (g : aG) (ls st : List Value) (h : aH) (k s : Nat) : Rn (aLk T121 σ) g 148 ls st h k s = (i_istore 11 150) g (Rn (aLk T121 σ) g) ls st h k s := Rn.go mo121 rfl g ls st h k s
theorem r121_150 (σ : Nat → Value) (g : aG) (ls st : List Value) (h : aH) (k s : Nat) : Rn (aLk T121 σ) g 150 ls st h k s = (i_iload 10 152) g (Rn (aLk T121 σ) g) ls st h k s := Rn.go mo121 rfl g ls st h k s
theorem r121_152 (σ : Nat → Value) (g : aG) (ls st : List Value) (h : aH) (k s : Nat) : Rn (aLk T121 σ) g 152 ls st h k s = (i_iload 11 154) g (Rn (aLk T121 σ) g) ls st h k s := Rn.go mo121 rfl g ls st h k s
theorem r121_154 (σ : Nat → Value) (g : aG) (ls st : List Value) (h : aH) (k s : Nat) : Rn (aLk T121 σ) g 154 ls st h k s = (i_clt 258 157) g (Rn (aLk T121 σ) g) ls st h k s := Rn.go mo121 rfl g ls st h k s
theorem r121_157 (σ : Nat → Value) (g : aG) (ls st : List Value) (h : aH) (k s : Nat) : Rn (aLk T121 σ) g 157 ls st h k s = (i_iload 9 159) g (Rn (aLk T121 σ) g) ls st h k s := Rn.go mo121 rfl g ls st h k s
theorem r121_159 (σ : Nat → Value) (g : aG) (ls st : List Value) (h : aH) (k s : Nat) : Rn (aLk T121 σ) g 159 ls st h k s = (i_op o_i2l 160) g (Rn (aLk T121 σ) g) ls st h k s := Rn.go mo121 rfl g ls st h k s
theorem r121_160 (σ : Nat → Value) (g : aG) (ls st : List Value) (h : aH) (k s : Nat) : Rn (aLk T121 σ) g 160 ls st h k s = (i_push (.int 3) 163) g (Rn (aLk T121 σ) g) ls st h k s := Rn.go mo121 rfl g ls st h k s
theorem r121_163 (σ : Nat → Value) (g : aG) (ls st : List Value) (h : aH) (k s : Nat) : Rn (aLk T121 σ) g 163 ls st h k s = (i_op o_lshl 164) g (Rn (aLk T121 σ) g) ls st h k s := Rn.go mo121 rfl g ls st h k s
theorem r121_164 (σ : Nat → Value) (g : aG) (ls st : List Value) (h : aH) (k s : Nat) : Rn (aLk T121 σ) g 164 ls st h k s = (i_lstore 12 166) g (Rn (aLk T121 σ) g) ls st h k s := Rn.go mo121 rfl g ls st h k s
theorem r121_166 (σ : Nat → Value) (g : aG) (ls st : List Value) (h : aH) (k s : Nat) : Rn (aLk T121 σ) g 166 ls st h k s = (i_push (σ 4) 169) g (Rn (aLk T121 σ) g) ls st h k s := Rn.go mo121 rfl g ls st h k s
theorem r121_169 (σ : Nat → Value) (g : aG) (ls st : List Value) (h : aH) (k s : Nat) : Rn (aLk T121 σ) g 169 ls st h k s = (i_aload 0 170) g (Rn (aLk T121 σ) g) ls st h k s := Rn.go mo121 rfl g ls st h k s
theorem r121_170 (σ : Nat → Value) (g : aG) (ls st : List Value) (h : aH) (k s : Nat) : Rn (aLk T121 σ) g 170 ls st h k s = (i_lload 1 171) g (Rn (aLk T121 σ) g) ls st h k s := Rn.go mo121 rfl g ls st h k s
theorem r121_171 (σ : Nat → Value) (g : aG) (ls st : List Value) (h : aH) (k s : Nat) : Rn (aLk T121 σ) g 171 ls st h k s = (i_lload 12 173) g (Rn (aLk T121 σ) g) ls st h k s := Rn.go mo121 rfl g ls st h k s
theorem r121_173 (σ : Nat → Value) (g : aG) (ls st : List Value) (h : aH) (k s : Nat) : Rn (aLk T121 σ) g 173 ls st h k s = (i_op o_ladd 174) g (Rn (aLk T121 σ) g) ls st h k s := Rn.go mo121 rfl g ls st h k s
theorem r121_177 (σ : Nat → Value) (g : aG) (ls st : List Value) (h : aH) (k s : Nat) : Rn (aLk T121 σ) g 177 ls st h k s = (i_istore 14 179) g (Rn (aLk T121 σ) g) ls st h k s := Rn.go mo121 rfl g ls st h k s
theorem r121_179 (σ : Nat → Value) (g : aG) (ls st : List Value) (h : aH) (k s : Nat) : Rn (aLk T121 σ) g 179 ls st h k s = (i_push (σ 4) 182) g (Rn (aLk T121 σ) g) ls st h k s := Rn.go mo121 rfl g ls st h k s
theorem r121_182 (σ : Nat → Value) (g : aG) (ls st : List Value) (h : aH) (k s : Nat) : Rn (aLk T121 σ) g 182 ls st h k s = (i_aload 3 183) g (Rn (aLk T121 σ) g) ls st h k s := Rn.go mo121 rfl g ls st h k s
theorem r121_183 (σ : Nat → Value) (g : aG) (ls st : List Value) (h : aH) (k s : Nat) : Rn (aLk T121 σ) g 183 ls st h k s = (i_lload 4 185) g (Rn (aLk T121 σ) g) ls st h k s := Rn.go mo121 rfl g ls st h k s
theorem r121_185 (σ : Nat → Value) (g : aG) (ls st : List Value) (h : aH) (k s : Nat) : Rn (aLk T121 σ) g 185 ls st h k s = (i_lload 12 187) g (Rn (aLk T121 σ) g) ls st h k s := Rn.go mo121 rfl g ls st h k s
theorem r121_187 (σ : Nat → Value) (g : aG) (ls st : List Value) (h : aH) (k s : Nat) : Rn (aLk T121 σ) g 187 ls st h k s = (i_op o_ladd 188) g (Rn (aLk T121 σ) g) ls st h k s := Rn.go mo121 rfl g ls st h k s
theorem r121_191 (σ : Nat → Value) (g : aG) (ls st : List Value) (h : aH) (k s : Nat) : Rn (aLk T121 σ) g 191 ls st h k s = (i_istore 15 193) g (Rn (aLk T121 σ) g) ls st h k s := Rn.go mo121 rfl g ls st h k s
theorem r121_193 (σ : Nat → Value) (g : aG) (ls st : List Value) (h : aH) (k s : Nat) : Rn (aLk T121 σ) g 193 ls st h k s = (i_iload 14 195) g (Rn (aLk T121 σ) g) ls st h k s := Rn.go mo121 rfl g ls st h k s
theorem r121_195 (σ : Nat → Value) (g : aG) (ls st : List Value) (h : aH) (k s : Nat) : Rn (aLk T121 σ) g 195 ls st h k s = (i_iload 15 197) g (Rn (aLk T121 σ) g) ls st h k s := Rn.go mo121 rfl g ls st h k s
theorem r121_197 (σ : Nat → Value) (g : aG) (ls st : List Value) (h : aH) (k s : Nat) : Rn (aLk T121 σ) g 197 ls st h k s = (i_ceq 251 200) g (Rn (aLk T121 σ) g) ls st h k s := Rn.go mo121 rfl g ls st h k s
theorem r121_200 (σ : Nat → Value) (g : aG) (ls st : List Value) (h : aH) (k s : Nat) : Rn (aLk T121 σ) g 200 ls st h k s = (i_iload 14 202) g (Rn (aLk T121 σ) g) ls st h k s := Rn.go mo121 rfl g ls st h k s
theorem r121_202 (σ : Nat → Value) (g : aG) (ls st : List Value) (h : aH) (k s : Nat) : Rn (aLk T121 σ) g 202 ls st h k s = (i_iload 15 204) g (Rn (aLk T121 σ) g) ls st h k s := Rn.go mo121 rfl g ls st h k s
theorem r121_204 (σ : Nat → Value) (g : aG) (ls st : List Value) (h : aH) (k s : Nat) : Rn (aLk T121 σ) g 204 ls st h k s = (i_op o_ixor 205) g (Rn (aLk T121 σ) g) ls st h k s := Rn.go mo121 rfl g ls st h k s
theorem r121_205 (σ : Nat → Value) (g : aG) (ls st : List Value) (h : aH) (k s : Nat) : Rn (aLk T121 σ) g 205 ls st h k s = (i_istore 16 207) g (Rn (aLk T121 σ) g) ls st h k s := Rn.go mo121 rfl g ls st h k s
theorem r121_207 (σ : Nat → Value) (g : aG) (ls st : List Value) (h : aH) (k s : Nat) : Rn (aLk T121 σ) g 207 ls st h k s = (i_push (.int 0) 210) g (Rn (aLk T121 σ) g) ls st h k s := Rn.go mo121 rfl g ls st h k s
theorem r121_210 (σ : Nat → Value) (g : aG) (ls st : List Value) (h : aH) (k s : Nat) : Rn (aLk T121 σ) g 210 ls st h k s = (i_ifeq 228 213) g (Rn (aLk T121 σ) g) ls st h k s := Rn.go mo121 rfl g ls st h k s
theorem r121_213 (σ : Nat → Value) (g : aG) (ls st : List Value) (h : aH) (k s : Nat) : Rn (aLk T121 σ) g 213 ls st h k s = (i_iload 16 215) g (Rn (aLk T121 σ) g) ls st h k s := Rn.go mo121 rfl g ls st h k s
theorem r121_215 (σ : Nat → Value) (g : aG) (ls st : List Value) (h : aH) (k s : Nat) : Rn (aLk T121 σ) g 215 ls st h k s = (i_callS 6 1 [] 218) g (Rn (aLk T121 σ) g) ls st h k s := Rn.go mo121 rfl g ls st h k s
theorem r121_218 (σ : Nat → Value) (g : aG) (ls st : List Value) (h : aH) (k s : Nat) : Rn (aLk T121 σ) g 218 ls st h k s = (i_push (.int 3) 221) g (Rn (aLk T121 σ) g) ls st h k s := Rn.go mo121 rfl g ls st h k s
theorem r121_221 (σ : Nat → Value) (g : aG) (ls st : List Value) (h : aH) (k s : Nat) : Rn (aLk T121 σ) g 221 ls st h k s = (i_iload 7 223) g (Rn (aLk T121 σ) g) ls st h k s := Rn.go mo121 rfl g ls st h k s
theorem r121_223 (σ : Nat → Value) (g : aG) (ls st : List Value) (h : aH) (k s : Nat) : Rn (aLk T121 σ) g 223 ls st h k s = (i_op o_iadd 224) g (Rn (aLk T121 σ) g) ls st h k s := Rn.go mo121 rfl g ls st h k s
theorem r121_224 (σ : Nat → Value) (g : aG) (ls st : List Value) (h : aH) (k s : Nat) : Rn (aLk T121 σ) g 224 ls st h k s = (i_op o_ishr 225) g (Rn (aLk T121 σ) g) ls st h k s := Rn.go mo121 rfl g ls st h k s
theorem r121_225 (σ : Nat → Value) (g : aG) (ls st : List Value) (h : aH) (k s : Nat) : Rn (aLk T121 σ) g 225 ls st h k s = (i_goto 240) g (Rn (aLk T121 σ) g) ls st h k s := Rn.go mo121 rfl g ls st h k s
theorem r121_228 (σ : Nat → Value) (g : aG) (ls st : List Value) (h : aH) (k s : Nat) : Rn (aLk T121 σ) g 228 ls st h k s = (i_iload 16 230) g (Rn (aLk T121 σ) g) ls st h k s := Rn.go mo121 rfl g ls st h k s
theorem r121_230 (σ : Nat → Value) (g : aG) (ls st : List Value) (h : aH) (k s : Nat) : Rn (aLk T121 σ) g 230 ls st h k s = (i_callS 7 1 [] 233) g (Rn (aLk T121 σ) g) ls st h k s := Rn.go mo121 rfl g ls st h k s
theorem r121_233 (σ : Nat → Value) (g : aG) (ls st : List Value) (h : aH) (k s : Nat) : Rn (aLk T121 σ) g 233 ls st h k s = (i_push (.int 3) 236) g (Rn (aLk T121 σ) g) ls st h k s := Rn.go mo121 rfl g ls st h k s
theorem r121_236 (σ : Nat → Value) (g : aG) (ls st : List Value) (h : aH) (k s : Nat) : Rn (aLk T121 σ) g 236 ls st h k s = (i_iload 7 238) g (Rn (aLk T121 σ) g) ls st h k s := Rn.go mo121 rfl g ls st h k s
theorem r121_238 (σ : Nat → Value) (g : aG) (ls st : List Value) (h : aH) (k s : Nat) : Rn (aLk T121 σ) g 238 ls st h k s = (i_op o_iadd 239) g (Rn (aLk T121 σ) g) ls st h k s := Rn.go mo121 rfl g ls st h k s
theorem r121_239 (σ : Nat → Value) (g : aG) (ls st : List Value) (h : aH) (k s : Nat) : Rn (aLk T121 σ) g 239 ls st h k s = (i_op o_ishr 240) g (Rn (aLk T121 σ) g) ls st h k s := Rn.go mo121 rfl g ls st h k s
theorem r121_240 (σ : Nat → Value) (g : aG) (ls st : List Value) (h : aH) (k s : Nat) : Rn (aLk T121 σ) g 240 ls st h k s = (i_istore 17 242) g (Rn (aLk T121 σ) g) ls st h k s := Rn.go mo121 rfl g ls st h k s
theorem r121_242 (σ : Nat → Value) (g : aG) (ls st : List Value) (h : aH) (k s : Nat) : Rn (aLk T121 σ) g 242 ls st h k s = (i_iload 9 244) g (Rn (aLk T121 σ) g) ls st h k s := Rn.go mo121 rfl g ls st h k s
theorem r121_244 (σ : Nat → Value) (g : aG) (ls st : List Value) (h : aH) (k s : Nat) : Rn (aLk T121 σ) g 244 ls st h k s = (i_iload 8 246) g (Rn (aLk T121 σ) g) ls st h k s := Rn.go mo121 rfl g ls st h k s
theorem r121_246 (σ : Nat → Value) (g : aG) (ls st : List Value) (h : aH) (k s : Nat) : Rn (aLk T121 σ) g 246 ls st h k s = (i_op o_ishl 247) g (Rn (aLk T121 σ) g) ls st h k s := Rn.go mo121 rfl g ls st h k s
theorem r121_247 (σ : Nat → Value) (g : aG) (ls st : List Value) (h : aH) (k s : Nat) : Rn (aLk T121 σ) g 247 ls st h k s = (i_iload 17 249) g (Rn (aLk T121 σ) g) ls st h k s := Rn.go mo121 rfl g ls st h k s
theorem r121_249 (σ : Nat → Value) (g : aG) (ls st : List Value) (h : aH) (k s : Nat) : Rn (aLk T121 σ) g 249 ls st h k s = (i_op o_iadd 250) g (Rn (aLk T121 σ) g) ls st h k s := Rn.go mo121 rfl g ls st h k s
theorem r121_250 (σ : Nat → Value) (g : aG) (ls st : List Value) (h : aH) (k s : Nat) : Rn (aLk T121 σ) g 250 ls st h k s = (i_iret .int) g (Rn (aLk T121 σ) g) ls st h k s := Rn.go mo121 rfl g ls st h k s
theorem r121_251 (σ : Nat → Value) (g : aG) (ls st : List Value) (h : aH) (k s : Nat) : Rn (aLk T121 σ) g 251 ls st h k s = (i_iload 10 253) g (Rn (aLk T121 σ) g) ls st h k s := Rn.go mo121 rfl g ls st h k s
theorem r121_253 (σ : Nat → Value) (g : aG) (ls st : List Value) (h : aH) (k s : Nat) : Rn (aLk T121 σ) g 253 ls st h k s = (i_iload 11 255) g (Rn (aLk T121 σ) g) ls st h k s := Rn.go mo121 rfl g ls st h k s
theorem r121_255 (σ : Nat → Value) (g : aG) (ls st : List Value) (h : aH) (k s : Nat) : Rn (aLk T121 σ) g 255 ls st h k s = (i_op o_isub 256) g (Rn (aLk T121 σ) g) ls st h k s := Rn.go mo121 rfl g ls st h k s
theorem r121_256 (σ : Nat → Value) (g : aG) (ls st : List Value) (h : aH) (k s : Nat) : Rn (aLk T121 σ) g 256 ls st h k s = (i_istore 10 258) g (Rn (aLk T121 σ) g) ls st h k s := Rn.go mo121 rfl g ls st h k s
theorem r121_258 (σ : Nat → Value) (g : aG) (ls st : List Value) (h : aH) (k s : Nat) : Rn (aLk T121 σ) g 258 ls st h k s = (i_iload 10 260) g (Rn (aLk T121 σ) g) ls st h k s := Rn.go mo121 rfl g ls st h k s
theorem r121_260 (σ : Nat → Value) (g : aG) (ls st : List Value) (h : aH) (k s : Nat) : Rn (aLk T121 σ) g 260 ls st h k s = (i_op (o_int (-1)) 261) g (Rn (aLk T121 σ) g) ls st h k s := Rn.go mo121 rfl g ls st h k s
theorem r121_261 (σ : Nat → Value) (g : aG) (ls st : List Value) (h : aH) (k s : Nat) : Rn (aLk T121 σ) g 261 ls st h k s = (i_op o_ixor 262) g (Rn (aLk T121 σ) g) ls st h k s := Rn.go mo121 rfl g ls st h k s
theorem r121_262 (σ : Nat → Value) (g : aG) (ls st : List Value) (h : aH) (k s : Nat) : Rn (aLk T121 σ) g 262 ls st h k s = (i_iret .int) g (Rn (aLk T121 σ) g) ls st h k s := Rn.go mo121 rfl g ls st h k s
theorem r121_263 (σ : Nat → Value) (g : aG) (ls st : List Value) (h : aH) (k s : Nat) : Rn (aLk T121 σ) g 263 ls st h k s = (i_iload 10 265) g (Rn (aLk T121 σ) g) ls st h k s := Rn.go mo121 rfl g ls st h k s
theorem r121_265 (σ : Nat → Value) (g : aG) (ls st : List Value) (h : aH) (k s : Nat) : Rn (aLk T121 σ) g 265 ls st h k s = (i_op (o_int (-1)) 266) g (Rn (aLk T121 σ) g) ls st h k s := Rn.go mo121 rfl g ls st h k s
theorem r121_266 (σ : Nat → Value) (g : aG) (ls st : List Value) (h : aH) (k s : Nat) : Rn (aLk T121 σ) g 266 ls st h k s = (i_op o_ixor 267) g (Rn (aLk T121 σ) g) ls st h k s := Rn.go mo121 rfl g ls st h k s
theorem r121_267 (σ : Nat → Value) (g : aG) (ls st : List Value) (h : aH) (k s : Nat) : Rn (aLk T121 σ) g 267 ls st h k s = (i_iret .int) g (Rn (aLk T121 σ) g) ls st h k s := Rn.go mo121 rfl g ls st h k s
theorem r122_0 (σ : Nat → Value) (g : aG) (ls st : List Value) (h : aH) (k s : Nat) : Rn (aLk T122 σ) g 0 ls st h k s = (i_iload 0 1) g (Rn (aLk T122 σ) g) ls st h k s := Rn.go mo122 rfl g ls st h k s
theorem r122_1 (σ : Nat → Value) (g : aG) (ls st : List Value) (h : aH) (k s : Nat) : Rn (aLk T122 σ) g 1 ls st h k s = (i_iflt 9 4) g (Rn (aLk T122 σ) g) ls st h k s := Rn.go mo122 rfl g ls st h k s
theorem r122_4 (σ : Nat → Value) (g : aG) (ls st : List Value) (h : aH) (k s : Nat) : Rn (aLk T122 σ) g 4 ls st h k s = (i_iload 0 5) g (Rn (aLk T122 σ) g) ls st h k s := Rn.go mo122 rfl g ls st h k s
theorem r122_5 (σ : Nat → Value) (g : aG) (ls st : List Value) (h : aH) (k s : Nat) : Rn (aLk T122 σ) g 5 ls st h k s = (i_iload 1 6) g (Rn (aLk T122 σ) g) ls st h k s := Rn.go mo122 rfl g ls st h k s
theorem r122_6 (σ : Nat → Value) (g : aG) (ls st : List Value) (h : aH) (k s : Nat) : Rn (aLk T122 σ) g 6 ls st h k s = (i_clt 16 9) g (Rn (aLk T122 σ) g) ls st h k s := Rn.go mo122 rfl g ls st h k s
theorem r122_9 (σ : Nat → Value) (g : aG) (ls st : List Value) (h : aH) (k s : Nat) : Rn (aLk T122 σ) g 9 ls st h k s = (i_aload 2 10) g (Rn (aLk T122 σ) g) ls st h k s := Rn.go mo122 rfl g ls st h k s
theorem r122_10 (σ : Nat → Value) (g : aG) (ls st : List Value) (h : aH) (k s : Nat) : Rn (aLk T122 σ) g 10 ls st h k s = (i_iload 0 11) g (Rn (aLk T122 σ) g) ls st h k s := Rn.go mo122 rfl g ls st h k s
theorem r122_11 (σ : Nat → Value) (g : aG) (ls st : List Value) (h : aH) (k s : Nat) : Rn (aLk T122 σ) g 11 ls st h k s = (i_iload 1 12) g (Rn (aLk T122 σ) g) ls st h k s := Rn.go mo122 rfl g ls st h k s
theorem r122_16 (σ : Nat → Value) (g : aG) (ls st : List Value) (h : aH) (k s : Nat) : Rn (aLk T122 σ) g 16 ls st h k s = (i_iload 0 17) g (Rn (aLk T122 σ) g) ls st h k s := Rn.go mo122 rfl g ls st h k s
theorem r122_17 (σ : Nat → Value) (g : aG) (ls st : List Value) (h : aH) (k s : Nat) : Rn (aLk T122 σ) g 17 ls st h k s = (i_iret .int) g (Rn (aLk T122 σ) g) ls st h k s := Rn.go mo122 rfl g ls st h k s
theorem r340_0 (σ : Nat → Value) (g : aG) (ls st : List Value) (h : aH) (k s : Nat) : Rn (aLk T340 σ) g 0 ls st h k s = (i_lload 2 1) g (Rn (aLk T340 σ) g) ls st h k s := Rn.go mo340 rfl g ls st h k s
theorem r340_1 (σ : Nat → Value) (g : aG) (ls st : List Value) (h : aH) (k s : Nat) : Rn (aLk T340 σ) g 1 ls st h k s = (i_op (o_long 7) 4) g (Rn (aLk T340 σ) g) ls st h k s := Rn.go mo340 rfl g ls st h k s
theorem r340_4 (σ : Nat → Value) (g : aG) (ls st : List Value) (h : aH) (k s : Nat) : Rn (aLk T340 σ) g 4 ls st h k s = (i_op o_land 5) g (Rn (aLk T340 σ) g) ls st h k s := Rn.go mo340 rfl g ls st h k s
theorem r340_5 (σ : Nat → Value) (g : aG) (ls st : List Value) (h : aH) (k s : Nat) : Rn (aLk T340 σ) g 5 ls st h k s = (i_op (o_long 0) 6) g (Rn (aLk T340 σ) g) ls st h k s := Rn.go mo340 rfl g ls st h k s
theorem r340_6 (σ : Nat → Value) (g : aG) (ls st : List Value) (h : aH) (k s : Nat) : Rn (aLk T340 σ) g 6 ls st h k s = (i_op o_lcmp 7) g (Rn (aLk T340 σ) g) ls st h k s := Rn.go mo340 rfl g ls st h k s
theorem r340_7 (σ : Nat → Value) (g : aG) (ls st : List Value) (h : aH) (k s : Nat) : Rn (aLk T340 σ) g 7 ls st h k s = (i_ifne 17 10) g (Rn (aLk T340 σ) g) ls st h k s := Rn.go mo340 rfl g ls st h k s
theorem r340_10 (σ : Nat → Value) (g : aG) (ls st : List Value) (h : aH) (k s : Nat) : Rn (aLk T340 σ) g 10 ls st h k s = (i_aload 0 11) g (Rn (aLk T340 σ) g) ls st h k s := Rn.go mo340 rfl g ls st h k s
theorem r340_11 (σ : Nat → Value) (g : aG) (ls st : List Value) (h : aH) (k s : Nat) : Rn (aLk T340 σ) g 11 ls st h k s = (i_aload 1 12) g (Rn (aLk T340 σ) g) ls st h k s := Rn.go mo340 rfl g ls st h k s
theorem r340_12 (σ : Nat → Value) (g : aG) (ls st : List Value) (h : aH) (k s : Nat) : Rn (aLk T340 σ) g 12 ls st h k s = (i_lload 2 13) g (Rn (aLk T340 σ) g) ls st h k s := Rn.go mo340 rfl g ls st h k s
theorem r340_13 (σ : Nat → Value) (g : aG) (ls st : List Value) (h : aH) (k s : Nat) : Rn (aLk T340 σ) g 13 ls st h k s = (i_ulong (σ 4) 16) g (Rn (aLk T340 σ) g) ls st h k s := Rn.go mo340 rfl g ls st h k s
theorem r340_16 (σ : Nat → Value) (g : aG) (ls st : List Value) (h : aH) (k s : Nat) : Rn (aLk T340 σ) g 16 ls st h k s = (i_lret) g (Rn (aLk T340 σ) g) ls st h k s := Rn.go mo340 rfl g ls st h k s
theorem r340_17 (σ : Nat → Value) (g : aG) (ls st : List Value) (h : aH) (k s : Nat) : Rn (aLk T340 σ) g 17 ls st h k s = (i_lload 2 18) g (Rn (aLk T340 σ) g) ls st h k s := Rn.go mo340 rfl g ls st h k s
theorem r340_18 (σ : Nat → Value) (g : aG) (ls st : List Value) (h : aH) (k s : Nat) : Rn (aLk T340 σ) g 18 ls st h k s = (i_op (o_long 3) 21) g (Rn (aLk T340 σ) g) ls st h k s := Rn.go mo340 rfl g ls st h k s
theorem r340_21 (σ : Nat → Value) (g : aG) (ls st : List Value) (h : aH) (k s : Nat) : Rn (aLk T340 σ) g 21 ls st h k s = (i_op o_land 22) g (Rn (aLk T340 σ) g) ls st h k s := Rn.go mo340 rfl g ls st h k s
theorem r340_22 (σ : Nat → Value) (g : aG) (ls st : List Value) (h : aH) (k s : Nat) : Rn (aLk T340 σ) g 22 ls st h k s = (i_op (o_long 0) 23) g (Rn (aLk T340 σ) g) ls st h k s := Rn.go mo340 rfl g ls st h k s
theorem r340_23 (σ : Nat → Value) (g : aG) (ls st : List Value) (h : aH) (k s : Nat) : Rn (aLk T340 σ) g 23 ls st h k s = (i_op o_lcmp 24) g (Rn (aLk T340 σ) g) ls st h k s := Rn.go mo340 rfl g ls st h k s
theorem r340_24 (σ : Nat → Value) (g : aG) (ls st : List Value) (h : aH) (k s : Nat) : Rn (aLk T340 σ) g 24 ls st h k s = (i_ifne 47 27) g (Rn (aLk T340 σ) g) ls st h k s := Rn.go mo340 rfl g ls st h k s
theorem r340_27 (σ : Nat → Value) (g : aG) (ls st : List Value) (h : aH) (k s : Nat) : Rn (aLk T340 σ) g 27 ls st h k s = (i_aload 0 28) g (Rn (aLk T340 σ) g) ls st h k s := Rn.go mo340 rfl g ls st h k s
theorem r340_28 (σ : Nat → Value) (g : aG) (ls st : List Value) (h : aH) (k s : Nat) : Rn (aLk T340 σ) g 28 ls st h k s = (i_aload 1 29) g (Rn (aLk T340 σ) g) ls st h k s := Rn.go mo340 rfl g ls st h k s
theorem r340_29 (σ : Nat → Value) (g : aG) (ls st : List Value) (h : aH) (k s : Nat) : Rn (aLk T340 σ) g 29 ls st h k s = (i_lload 2 30) g (Rn (aLk T340 σ) g) ls st h k s := Rn.go mo340 rfl g ls st h k s
theorem r340_33 (σ : Nat → Value) (g : aG) (ls st : List Value) (h : aH) (k s : Nat) : Rn (aLk T340 σ) g 33 ls st h k s = (i_aload 0 34) g (Rn (aLk T340 σ) g) ls st h k s := Rn.go mo340 rfl g ls st h k s
theorem r340_34 (σ : Nat → Value) (g : aG) (ls st : List Value) (h : aH) (k s : Nat) : Rn (aLk T340 σ) g 34 ls st h k s = (i_aload 1 35) g (Rn (aLk T340 σ) g) ls st h k s := Rn.go mo340 rfl g ls st h k s
theorem r340_35 (σ : Nat → Value) (g : aG) (ls st : List Value) (h : aH) (k s : Nat) : Rn (aLk T340 σ) g 35 ls st h k s = (i_lload 2 36) g (Rn (aLk T340 σ) g) ls st h k s := Rn.go mo340 rfl g ls st h k s
theorem r340_36 (σ : Nat → Value) (g : aG) (ls st : List Value) (h : aH) (k s : Nat) : Rn (aLk T340 σ) g 36 ls st h k s = (i_op (o_long 4) 39) g (Rn (aLk T340 σ) g) ls st h k s := Rn.go mo340 rfl g ls st h k s
theorem r340_39 (σ : Nat → Value) (g : aG) (ls st : List Value) (h : aH) (k s : Nat) : Rn (aLk T340 σ) g 39 ls st h k s = (i_op o_ladd 40) g (Rn (aLk T340 σ) g) ls st h k s := Rn.go mo340 rfl g ls st h k s
theorem r340_46 (σ : Nat → Value) (g : aG) (ls st : List Value) (h : aH) (k s : Nat) : Rn (aLk T340 σ) g 46 ls st h k s = (i_lret) g (Rn (aLk T340 σ) g) ls st h k s := Rn.go mo340 rfl g ls st h k s
theorem r340_47 (σ : Nat → Value) (g : aG) (ls st : List Value) (h : aH) (k s : Nat) : Rn (aLk T340 σ) g 47 ls st h k s = (i_lload 2 48) g (Rn (aLk T340 σ) g) ls st h k s := Rn.go mo340 rfl g ls st h k s
theorem r340_48 (σ : Nat → Value) (g : aG) (ls st : List Value) (h : aH) (k s : Nat) : Rn (aLk T340 σ) g 48 ls st h k s = (i_op (o_long 1) 49) g (Rn (aLk T340 σ) g) ls st h k s := Rn.go mo340 rfl g ls st h k s
theorem r340_49 (σ : Nat → Value) (g : aG) (ls st : List Value) (h : aH) (k s : Nat) : Rn (aLk T340 σ) g 49 ls st h k s = (i_op o_land 50) g (Rn (aLk T340 σ) g) ls st h k s := Rn.go mo340 rfl g ls st h k s
theorem r340_50 (σ : Nat → Value) (g : aG) (ls st : List Value) (h : aH) (k s : Nat) : Rn (aLk T340 σ) g 50 ls st h k s = (i_op (o_long 0) 51) g (Rn (aLk T340 σ) g) ls st h k s := Rn.go mo340 rfl g ls st h k s
theorem r340_51 (σ : Nat → Value) (g : aG) (ls st : List Value) (h : aH) (k s : Nat) : Rn (aLk T340 σ) g 51 ls st h k s = (i_op o_lcmp 52) g (Rn (aLk T340 σ) g) ls st h k s := Rn.go mo340 rfl g ls st h k s
theorem r340_52 (σ : Nat → Value) (g : aG) (ls st : List Value) (h : aH) (k s : Nat) : Rn (aLk T340 σ) g 52 ls st h k s = (i_ifne 95 55) g (Rn (aLk T340 σ) g) ls st h k s := Rn.go mo340 rfl g ls st h k s
theorem r340_55 (σ : Nat → Value) (g : aG) (ls st : List Value) (h : aH) (k s : Nat) : Rn (aLk T340 σ) g 55 ls st h k s = (i_aload 0 56) g (Rn (aLk T340 σ) g) ls st h k s := Rn.go mo340 rfl g ls st h k s
theorem r340_56 (σ : Nat → Value) (g : aG) (ls st : List Value) (h : aH) (k s : Nat) : Rn (aLk T340 σ) g 56 ls st h k s = (i_aload 1 57) g (Rn (aLk T340 σ) g) ls st h k s := Rn.go mo340 rfl g ls st h k s
theorem r340_57 (σ : Nat → Value) (g : aG) (ls st : List Value) (h : aH) (k s : Nat) : Rn (aLk T340 σ) g 57 ls st h k s = (i_lload 2 58) g (Rn (aLk T340 σ) g) ls st h k s := Rn.go mo340 rfl g ls st h k s
theorem r340_61 (σ : Nat → Value) (g : aG) (ls st : List Value) (h : aH) (k s : Nat) : Rn (aLk T340 σ) g 61 ls st h k s = (i_aload 0 62) g (Rn (aLk T340 σ) g) ls st h k s := Rn.go mo340 rfl g ls st h k s
theorem r340_62 (σ : Nat → Value) (g : aG) (ls st : List Value) (h : aH) (k s : Nat) : Rn (aLk T340 σ) g 62 ls st h k s = (i_aload 1 63) g (Rn (aLk T340 σ) g) ls st h k s := Rn.go mo340 rfl g ls st h k s
theorem r340_63 (σ : Nat → Value) (g : aG) (ls st : List Value) (h : aH) (k s : Nat) : Rn (aLk T340 σ) g 63 ls st h k s = (i_lload 2 64) g (Rn (aLk T340 σ) g) ls st h k s := Rn.go mo340 rfl g ls st h k s
theorem r340_64 (σ : Nat → Value) (g : aG) (ls st : List Value) (h : aH) (k s : Nat) : Rn (aLk T340 σ) g 64 ls st h k s = (i_op (o_long 2) 67) g (Rn (aLk T340 σ) g) ls st h k s := Rn.go mo340 rfl g ls st h k s
theorem r340_67 (σ : Nat → Value) (g : aG) (ls st : List Value) (h : aH) (k s : Nat) : Rn (aLk T340 σ) g 67 ls st h k s = (i_op o_ladd 68) g (Rn (aLk T340 σ) g) ls st h k s := Rn.go mo340 rfl g ls st h k s
theorem r340_71 (σ : Nat → Value) (g : aG) (ls st : List Value) (h : aH) (k s : Nat) : Rn (aLk T340 σ) g 71 ls st h k s = (i_aload 0 72) g (Rn (aLk T340 σ) g) ls st h k s := Rn.go mo340 rfl g ls st h k s
theorem r340_72 (σ : Nat → Value) (g : aG) (ls st : List Value) (h : aH) (k s : Nat) : Rn (aLk T340 σ) g 72 ls st h k s = (i_aload 1 73) g (Rn (aLk T340 σ) g) ls st h k s := Rn.go mo340 rfl g ls st h k s
theorem r340_73 (σ : Nat → Value) (g : aG) (ls st : List Value) (h : aH) (k s : Nat) : Rn (aLk T340 σ) g 73 ls st h k s = (i_lload 2 74) g (Rn (aLk T340 σ) g) ls st h k s := Rn.go mo340 rfl g ls st h k s
theorem r340_74 (σ : Nat → Value) (g : aG) (ls st : List Value) (h : aH) (k s : Nat) : Rn (aLk T340 σ) g 74 ls st h k s = (i_op (o_long 4) 77) g (Rn (aLk T340 σ) g) ls st h k s := Rn.go mo340 rfl g ls st h k s
theorem r340_77 (σ : Nat → Value) (g : aG) (ls st : List Value) (h : aH) (k s : Nat) : Rn (aLk T340 σ) g 77 ls st h k s = (i_op o_ladd 78) g (Rn (aLk T340 σ) g) ls st h k s := Rn.go mo340 rfl g ls st h k s
theorem r340_81 (σ : Nat → Value) (g : aG) (ls st : List Value) (h : aH) (k s : Nat) : Rn (aLk T340 σ) g 81 ls st h k s = (i_aload 0 82) g (Rn (aLk T340 σ) g) ls st h k s := Rn.go mo340 rfl g ls st h k s
theorem r340_82 (σ : Nat → Value) (g : aG) (ls st : List Value) (h : aH) (k s : Nat) : Rn (aLk T340 σ) g 82 ls st h k s = (i_aload 1 83) g (Rn (aLk T340 σ) g) ls st h k s := Rn.go mo340 rfl g ls st h k s
theorem r340_83 (σ : Nat → Value) (g : aG) (ls st : List Value) (h : aH) (k s : Nat) : Rn (aLk T340 σ) g 83 ls st h k s = (i_lload 2 84) g (Rn (aLk T340 σ) g) ls st h k s := Rn.go mo340 rfl g ls st h k s
theorem r340_84 (σ : Nat → Value) (g : aG) (ls st : List Value) (h : aH) (k s : Nat) : Rn (aLk T340 σ) g 84 ls st h k s = (i_op (o_long 6) 87) g (Rn (aLk T340 σ) g) ls st h k s := Rn.go mo340 rfl g ls st h k s
theorem r340_87 (σ : Nat → Value) (g : aG) (ls st : List Value) (h : aH) (k s : Nat) : Rn (aLk T340 σ) g 87 ls st h k s = (i_op o_ladd 88) g (Rn (aLk T340 σ) g) ls st h k s := Rn.go mo340 rfl g ls st h k s
theorem r340_94 (σ : Nat → Value) (g : aG) (ls st : List Value) (h : aH) (k s : Nat) : Rn (aLk T340 σ) g 94 ls st h k s = (i_lret) g (Rn (aLk T340 σ) g) ls st h k s := Rn.go mo340 rfl g ls st h k s
theorem r340_95 (σ : Nat → Value) (g : aG) (ls st : List Value) (h : aH) (k s : Nat) : Rn (aLk T340 σ) g 95 ls st h k s = (i_aload 0 96) g (Rn (aLk T340 σ) g) ls st h k s := Rn.go mo340 rfl g ls st h k s
theorem r340_96 (σ : Nat → Value) (g : aG) (ls st : List Value) (h : aH) (k s : Nat) : Rn (aLk T340 σ) g 96 ls st h k s = (i_aload 1 97) g (Rn (aLk T340 σ) g) ls st h k s := Rn.go mo340 rfl g ls st h k s
theorem r340_97 (σ : Nat → Value) (g : aG) (ls st : List Value) (h : aH) (k s : Nat) : Rn (aLk T340 σ) g 97 ls st h k s = (i_lload 2 98) g (Rn (aLk T340 σ) g) ls st h k s := Rn.go mo340 rfl g ls st h k s
theorem r340_101 (σ : Nat → Value) (g : aG) (ls st : List Value) (h : aH) (k s : Nat) : Rn (aLk T340 σ) g 101 ls st h k s = (i_aload 0 102) g (Rn (aLk T340 σ) g) ls st h k s := Rn.go mo340 rfl g ls st h k s
theorem r340_102 (σ : Nat → Value) (g : aG) (ls st : List Value) (h : aH) (k s : Nat) : Rn (aLk T340 σ) g 102 ls st h k s = (i_aload 1 103) g (Rn (aLk T340 σ) g) ls st h k s := Rn.go mo340 rfl g ls st h k s
theorem r340_103 (σ : Nat → Value) (g : aG) (ls st : List Value) (h : aH) (k s : Nat) : Rn (aLk T340 σ) g 103 ls st h k s = (i_lload 2 104) g (Rn (aLk T340 σ) g) ls st h k s := Rn.go mo340 rfl g ls st h k s
theorem r340_104 (σ : Nat → Value) (g : aG) (ls st : List Value) (h : aH) (k s : Nat) : Rn (aLk T340 σ) g 104 ls st h k s = (i_op (o_long 1) 105) g (Rn (aLk T340 σ) g) ls st h k s := Rn.go mo340 rfl g ls st h k s
theorem r340_105 (σ : Nat → Value) (g : aG) (ls st : List Value) (h : aH) (k s : Nat) : Rn (aLk T340 σ) g 105 ls st h k s = (i_op o_ladd 106) g (Rn (aLk T340 σ) g) ls st h k s := Rn.go mo340 rfl g ls st h k s
theorem r340_109 (σ : Nat → Value) (g : aG) (ls st : List Value) (h : aH) (k s : Nat) : Rn (aLk T340 σ) g 109 ls st h k s = (i_aload 0 110) g (Rn (aLk T340 σ) g) ls st h k s := Rn.go mo340 rfl g ls st h k s
theorem r340_110 (σ : Nat → Value) (g : aG) (ls st : List Value) (h : aH) (k s : Nat) : Rn (aLk T340 σ) g 110 ls st h k s = (i_aload 1 111) g (Rn (aLk T340 σ) g) ls st h k s := Rn.go mo340 rfl g ls st h k s
theorem r340_111 (σ : Nat → Value) (g : aG) (ls st : List Value) (h : aH) (k s : Nat) : Rn (aLk T340 σ) g 111 ls st h k s = (i_lload 2 112) g (Rn (aLk T340 σ) g) ls st h k s := Rn.go mo340 rfl g ls st h k s
theorem r340_112 (σ : Nat → Value) (g : aG) (ls st : List Value) (h : aH) (k s : Nat) : Rn (aLk T340 σ) g 112 ls st h k s = (i_op (o_long 2) 115) g (Rn (aLk T340 σ) g) ls st h k s := Rn.go mo340 rfl g ls st h k s
theorem r340_115 (σ : Nat → Value) (g : aG) (ls st : List Value) (h : aH) (k s : Nat) : Rn (aLk T340 σ) g 115 ls st h k s = (i_op o_ladd 116) g (Rn (aLk T340 σ) g) ls st h k s := Rn.go mo340 rfl g ls st h k s
theorem r340_119 (σ : Nat → Value) (g : aG) (ls st : List Value) (h : aH) (k s : Nat) : Rn (aLk T340 σ) g 119 ls st h k s = (i_aload 0 120) g (Rn (aLk T340 σ) g) ls st h k s := Rn.go mo340 rfl g ls st h k s
theorem r340_120 (σ : Nat → Value) (g : aG) (ls st : List Value) (h : aH) (k s : Nat) : Rn (aLk T340 σ) g 120 ls st h k s = (i_aload 1 121) g (Rn (aLk T340 σ) g) ls st h k s := Rn.go mo340 rfl g ls st h k s
theorem r340_121 (σ : Nat → Value) (g : aG) (ls st : List Value) (h : aH) (k s : Nat) : Rn (aLk T340 σ) g 121 ls st h k s = (i_lload 2 122) g (Rn (aLk T340 σ) g) ls st h k s := Rn.go mo340 rfl g ls st h k s
theorem r340_122 (σ : Nat → Value) (g : aG) (ls st : List Value) (h : aH) (k s : Nat) : Rn (aLk T340 σ) g 122 ls st h k s = (i_op (o_long 3) 125) g (Rn (aLk T340 σ) g) ls st h k s := Rn.go mo340 rfl g ls st h k s
theorem r340_125 (σ : Nat → Value) (g : aG) (ls st : List Value) (h : aH) (k s : Nat) : Rn (aLk T340 σ) g 125 ls st h k s = (i_op o_ladd 126) g (Rn (aLk T340 σ) g) ls st h k s := Rn.go mo340 rfl g ls st h k s
theorem r340_129 (σ : Nat → Value) (g : aG) (ls st : List Value) (h : aH) (k s : Nat) : Rn (aLk T340 σ) g 129 ls st h k s = (i_aload 0 130) g (Rn (aLk T340 σ) g) ls st h k s := Rn.go mo340 rfl g ls st h k s
theorem r340_130 (σ : Nat → Value) (g : aG) (ls st : List Value) (h : aH) (k s : Nat) : Rn (aLk T340 σ) g 130 ls st h k s = (i_aload 1 131) g (Rn (aLk T340 σ) g) ls st h k s := Rn.go mo340 rfl g ls st h k s
theorem r340_131 (σ : Nat → Value) (g : aG) (ls st : List Value) (h : aH) (k s : Nat) : Rn (aLk T340 σ) g 131 ls st h k s = (i_lload 2 132) g (Rn (aLk T340 σ) g) ls st h k s := Rn.go mo340 rfl g ls st h k s
theorem r340_132 (σ : Nat → Value) (g : aG) (ls st : List Value) (h : aH) (k s : Nat) : Rn (aLk T340 σ) g 132 ls st h k s = (i_op (o_long 4) 135) g (Rn (aLk T340 σ) g) ls st h k s := Rn.go mo340 rfl g ls st h k s
theorem r340_135 (σ : Nat → Value) (g : aG) (ls st : List Value) (h : aH) (k s : Nat) : Rn (aLk T340 σ) g 135 ls st h k s = (i_op o_ladd 136) g (Rn (aLk T340 σ) g) ls st h k s := Rn.go mo340 rfl g ls st h k s
theorem r340_139 (σ : Nat → Value) (g : aG) (ls st : List Value) (h : aH) (k s : Nat) : Rn (aLk T340 σ) g 139 ls st h k s = (i_aload 0 140) g (Rn (aLk T340 σ) g) ls st h k s := Rn.go mo340 rfl g ls st h k s
theorem r340_140 (σ : Nat → Value) (g : aG) (ls st : List Value) (h : aH) (k s : Nat) : Rn (aLk T340 σ) g 140 ls st h k s = (i_aload 1 141) g (Rn (aLk T340 σ) g) ls st h k s := Rn.go mo340 rfl g ls st h k s
theorem r340_141 (σ : Nat → Value) (g : aG) (ls st : List Value) (h : aH) (k s : Nat) : Rn (aLk T340 σ) g 141 ls st h k s = (i_lload 2 142) g (Rn (aLk T340 σ) g) ls st h k s := Rn.go mo340 rfl g ls st h k s
theorem r340_142 (σ : Nat → Value) (g : aG) (ls st : List Value) (h : aH) (k s : Nat) : Rn (aLk T340 σ) g 142 ls st h k s = (i_op (o_long 5) 145) g (Rn (aLk T340 σ) g) ls st h k s := Rn.go mo340 rfl g ls st h k s
theorem r340_145 (σ : Nat → Value) (g : aG) (ls st : List Value) (h : aH) (k s : Nat) : Rn (aLk T340 σ) g 145 ls st h k s = (i_op o_ladd 146) g (Rn (aLk T340 σ) g) ls st h k s := Rn.go mo340 rfl g ls st h k s
theorem r340_149 (σ : Nat → Value) (g : aG) (ls st : List Value) (h : aH) (k s : Nat) : Rn (aLk T340 σ) g 149 ls st h k s = (i_aload 0 150) g (Rn (aLk T340 σ) g) ls st h k s := Rn.go mo340 rfl g ls st h k s
theorem r340_150 (σ : Nat → Value) (g : aG) (ls st : List Value) (h : aH) (k s : Nat) : Rn (aLk T340 σ) g 150 ls st h k s = (i_aload 1 151) g (Rn (aLk T340 σ) g) ls st h k s := Rn.go mo340 rfl g ls st h k s
theorem r340_151 (σ : Nat → Value) (g : aG) (ls st : List Value) (h : aH) (k s : Nat) : Rn (aLk T340 σ) g 151 ls st h k s = (i_lload 2 152) g (Rn (aLk T340 σ) g) ls st h k s := Rn.go mo340 rfl g ls st h k s
theorem r340_152 (σ : Nat → Value) (g : aG) (ls st : List Value) (h : aH) (k s : Nat) : Rn (aLk T340 σ) g 152 ls st h k s = (i_op (o_long 6) 155) g (Rn (aLk T340 σ) g) ls st h k s := Rn.go mo340 rfl g ls st h k s
theorem r340_155 (σ : Nat → Value) (g : aG) (ls st : List Value) (h : aH) (k s : Nat) : Rn (aLk T340 σ) g 155 ls st h k s = (i_op o_ladd 156) g (Rn (aLk T340 σ) g) ls st h k s := Rn.go mo340 rfl g ls st h k s
theorem r340_159 (σ : Nat → Value) (g : aG) (ls st : List Value) (h : aH) (k s : Nat) : Rn (aLk T340 σ) g 159 ls st h k s = (i_aload 0 160) g (Rn (aLk T340 σ) g) ls st h k s := Rn.go mo340 rfl g ls st h k s
theorem r340_160 (σ : Nat → Value) (g : aG) (ls st : List Value) (h : aH) (k s : Nat) : Rn (aLk T340 σ) g 160 ls st h k s = (i_aload 1 161) g (Rn (aLk T340 σ) g) ls st h k s := Rn.go mo340 rfl g ls st h k s
theorem r340_161 (σ : Nat → Value) (g : aG) (ls st : List Value) (h : aH) (k s : Nat) : Rn (aLk T340 σ) g 161 ls st h k s = (i_lload 2 162) g (Rn (aLk T340 σ) g) ls st h k s := Rn.go mo340 rfl g ls st h k s
theorem r340_162 (σ : Nat → Value) (g : aG) (ls st : List Value) (h : aH) (k s : Nat) : Rn (aLk T340 σ) g 162 ls st h k s = (i_op (o_long 7) 165) g (Rn (aLk T340 σ) g) ls st h k s := Rn.go mo340 rfl g ls st h k s
theorem r340_165 (σ : Nat → Value) (g : aG) (ls st : List Value) (h : aH) (k s : Nat) : Rn (aLk T340 σ) g 165 ls st h k s = (i_op o_ladd 166) g (Rn (aLk T340 σ) g) ls st h k s := Rn.go mo340 rfl g ls st h k s
theorem r340_172 (σ : Nat → Value) (g : aG) (ls st : List Value) (h : aH) (k s : Nat) : Rn (aLk T340 σ) g 172 ls st h k s = (i_lret) g (Rn (aLk T340 σ) g) ls st h k s := Rn.go mo340 rfl g ls st h k s
