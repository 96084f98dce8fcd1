theorem zz_0 : True := trivial
